section
/-- a place of a function changed -/
def qn_u {α : Type} (f : Nat → α) (k : Nat) (x : α) : Nat → α := fun j => if j = k then x else f j
theorem qn_us {α : Type} {f : Nat → α} {k : Nat} {x : α} : qn_u f k x k = x := if_pos rfl
theorem qn_un {α : Type} {f : Nat → α} {k j : Nat} {x : α} (h : j ≠ k) : qn_u f k x j = f j := if_neg h
theorem qn_c {α : Type} (f : Nat → α) (k : Nat) (x : α) (j : Nat) : (j = k ∧ qn_u f k x j = x) ∨ (j ≠ k ∧ qn_u f k x j = f j) := by
  by_cases h : j = k
  · exact Or.inl ⟨h, by rw [h, qn_us]⟩
  · exact Or.inr ⟨h, qn_un h⟩
theorem qn_self {α : Type} (f : Nat → α) (k : Nat) : qn_u f k (f k) = f := by
  funext j
  rcases qn_c f k (f k) j with ⟨h, e⟩ | ⟨h, e⟩
  · rw [e, h]
  · rw [e]
theorem qn_uu {α : Type} (f : Nat → α) (k : Nat) (x y : α) : qn_u (qn_u f k x) k y = qn_u f k y := by
  funext j
  unfold qn_u
  by_cases h : j = k
  · rw [if_pos h, if_pos h]
  · rw [if_neg h, if_neg h, if_neg h]
/-- bytes -/
theorem qn_b : ∀ c, c < 128 → (nI c).toInt8.toInt32 = nI c := by decide +kernel
theorem qn_bm : (-1 : Int32).toInt8.toInt32 = -1 := by decide
theorem qn_vb {c : Nat} (h : c < 128) : vp_nar .byte (nI c) = nI c := by rw [vp_nar_byte, qn_b c h]
theorem qn_vm : vp_nar .byte (-1) = -1 := by rw [vp_nar_byte, qn_bm]
theorem qn_m1 : (-1 : Int32) < 0 := by decide
theorem qn_m1' : ¬ (0 : Int32) ≤ -1 := by decide
theorem qn_cl {c : Nat} (h : c < 1048576) : (nI c).toNatClampNeg = c := nI_clamp (by omega)
theorem qn_inj {a b : Nat} (ha : a < 2 ^ 31) (hb : b < 2 ^ 31) (h : nI a = nI b) : a = b := (nI_eq ha hb).mp h
theorem qn_s1 {n : Nat} (h : 0 < n) : nI n - 1 = nI (n - 1) := by
  obtain ⟨k, rfl⟩ : ∃ k, n = k + 1 := ⟨n - 1, by omega⟩
  rw [nI_pred, Nat.add_sub_cancel]
theorem qn_2 : ¬ (2 : Int32) = 0 := by decide
theorem qn_3 : ¬ (3 : Int32) = 0 := by decide
theorem qn_4 : ¬ (4 : Int32) = 0 := by decide
theorem qn_16 : ¬ (16 : Int32) = 0 := by decide
theorem qn_32 : ¬ (32 : Int32) = 0 := by decide
theorem qn_d32 {x : Nat} (h : x < 2 ^ 31) : nI x / 32 = nI (x / 32) := pk_div (d := 32) h (by decide) (by decide)
theorem qn_r32 {x : Nat} (h : x < 2 ^ 31) : nI x - nI x / 32 * 32 = nI (x % 32) := pk_rem (d := 32) h (by decide) (by decide)
theorem qn_r16 {x : Nat} (h : x < 2 ^ 31) : nI x - nI x / 16 * 16 = nI (x % 16) := pk_rem (d := 16) h (by decide) (by decide)
/-- events of customers: a customer's event, 0: none -/
def qe_ok (ev : Nat → Nat) : Prop := ∀ c, ev c ≠ 0 → c < 12 ∧ ev c % 16 = c ∧ ev c < 1048576
def qe_n (ev : Nat → Nat) : Nat → Nat
  | 0 => 0
  | k + 1 => qe_n ev k + (if ev k = 0 then 0 else 1)
def qe_L (ev : Nat → Nat) (x : Nat) : Prop := x ≠ 0 ∧ (∃ c, c < 12 ∧ ev c = x) ∧ ∀ c, ev c ≠ 0 → x ≤ ev c
def qe_m (ev : Nat → Nat) : Nat → Nat
  | 0 => 0
  | k + 1 => if ev k = 0 then qe_m ev k else if qe_m ev k = 0 then ev k else min (ev k) (qe_m ev k)
theorem qe_m0 {ev : Nat → Nat} : ∀ {k : Nat}, qe_m ev k = 0 → ∀ c, c < k → ev c = 0 := by
  intro k
  induction k with
  | zero => intro _ c h; omega
  | succ k ih =>
    intro h c hc
    unfold qe_m at h
    by_cases e : ev k = 0
    · rw [if_pos e] at h
      by_cases ec : c = k
      · rw [ec, e]
      · exact ih h c (by omega)
    · rw [if_neg e] at h
      by_cases e2 : qe_m ev k = 0
      · rw [if_pos e2] at h; omega
      · rw [if_neg e2] at h; omega
theorem qe_m1 {ev : Nat → Nat} : ∀ {k : Nat}, qe_m ev k ≠ 0 → (∃ c, c < k ∧ ev c = qe_m ev k) ∧ ∀ c, c < k → ev c ≠ 0 → qe_m ev k ≤ ev c := by
  intro k
  induction k with
  | zero => intro h; exact absurd rfl h
  | succ k ih =>
    intro h
    unfold qe_m at h ⊢
    by_cases e : ev k = 0
    · rw [if_pos e] at h ⊢
      obtain ⟨⟨c, hc, h1⟩, h2⟩ := ih h
      refine ⟨⟨c, by omega, h1⟩, fun d hd hn => ?_⟩
      by_cases ed : d = k
      · rw [ed] at hn; exact absurd e hn
      · exact h2 d (by omega) hn
    · rw [if_neg e] at h ⊢
      by_cases e2 : qe_m ev k = 0
      · rw [if_pos e2]
        refine ⟨⟨k, by omega, rfl⟩, fun d hd hn => ?_⟩
        by_cases ed : d = k
        · rw [ed]; omega
        · exact absurd (qe_m0 e2 d (by omega)) hn
      · rw [if_neg e2]
        obtain ⟨⟨c, hc, h1⟩, h2⟩ := ih e2
        refine ⟨?_, fun d hd hn => ?_⟩
        · by_cases e3 : ev k ≤ qe_m ev k
          · exact ⟨k, by omega, by omega⟩
          · exact ⟨c, by omega, by omega⟩
        · by_cases ed : d = k
          · rw [ed]; omega
          · have := h2 d (by omega) hn; omega
theorem qe_mL {ev : Nat → Nat} {x : Nat} (ok : qe_ok ev) (h : qe_L ev x) : qe_m ev 12 = x := by
  obtain ⟨h0, ⟨c, hc, h1⟩, h2⟩ := h
  have hn : qe_m ev 12 ≠ 0 := fun e => h0 (by rw [← h1]; exact qe_m0 e c hc)
  obtain ⟨⟨d, hd, g1⟩, g2⟩ := qe_m1 hn
  have a1 := g2 c hc (by omega)
  have a2 := h2 d (by omega)
  omega
theorem qe_Lm {ev : Nat → Nat} (ok : qe_ok ev) (h : qe_m ev 12 ≠ 0) : qe_L ev (qe_m ev 12) := by
  obtain ⟨g1, g2⟩ := qe_m1 h
  exact ⟨h, g1, fun c hn => g2 c (ok c hn).1 hn⟩
theorem qe_n0 {ev : Nat → Nat} : ∀ {k : Nat}, qe_n ev k = 0 → ∀ c, c < k → ev c = 0 := by
  intro k
  induction k with
  | zero => intro _ c h; omega
  | succ k ih =>
    intro h c hc
    unfold qe_n at h
    by_cases e : ev k = 0
    · by_cases ec : c = k
      · rw [ec, e]
      · exact ih (by omega) c (by omega)
    · rw [if_neg e] at h; omega
theorem qe_nle (ev : Nat → Nat) : ∀ k : Nat, qe_n ev k ≤ k := by
  intro k
  induction k with
  | zero => exact Nat.le_refl 0
  | succ k ih =>
    unfold qe_n
    by_cases e : ev k = 0
    · rw [if_pos e]; omega
    · rw [if_neg e]; omega
theorem qe_nlo {ev : Nat → Nat} {c x : Nat} : ∀ {k : Nat}, k ≤ c → qe_n (qn_u ev c x) k = qe_n ev k := by
  intro k
  induction k with
  | zero => intro _; rfl
  | succ k ih =>
    intro h
    unfold qe_n
    rw [ih (by omega), qn_un (by omega)]
theorem qe_nadd {ev : Nat → Nat} {c x : Nat} (h0 : ev c = 0) (hx : x ≠ 0) : ∀ {k : Nat}, c < k → qe_n (qn_u ev c x) k = qe_n ev k + 1 := by
  intro k
  induction k with
  | zero => intro h; omega
  | succ k ih =>
    intro h
    unfold qe_n
    by_cases e : c = k
    · rw [qe_nlo (by omega), e, qn_us, if_neg hx, ← e, if_pos h0]
    · rw [ih (by omega), qn_un (by omega)]; omega
theorem qe_nrem {ev : Nat → Nat} {c : Nat} (h0 : ev c ≠ 0) : ∀ {k : Nat}, c < k → qe_n (qn_u ev c 0) k + 1 = qe_n ev k := by
  intro k
  induction k with
  | zero => intro h; omega
  | succ k ih =>
    intro h
    unfold qe_n
    by_cases e : c = k
    · rw [qe_nlo (by omega), e, qn_us, if_pos rfl, ← e, if_neg h0]
    · have := ih (by omega)
      rw [qn_un (by omega)]; omega
theorem qe_npos {ev : Nat → Nat} {c k : Nat} (hc : c < k) (h : ev c ≠ 0) : 0 < qe_n ev k := by
  rcases Nat.eq_zero_or_pos (qe_n ev k) with z | z
  · exact absurd (qe_n0 z c hc) h
  · exact z
theorem qe_some {ev : Nat → Nat} : ∀ {k : Nat}, 0 < qe_n ev k → ∃ c, c < k ∧ ev c ≠ 0 := by
  intro k
  induction k with
  | zero => intro h; exact absurd h (Nat.lt_irrefl 0)
  | succ k ih =>
    intro h
    unfold qe_n at h
    by_cases e : ev k = 0
    · rw [if_pos e] at h
      obtain ⟨c, hc, hn⟩ := ih (by omega)
      exact ⟨c, by omega, hn⟩
    · exact ⟨k, by omega, e⟩
theorem qe_oku {ev : Nat → Nat} {E : Nat} (ok : qe_ok ev) (h1 : E % 16 < 12) (h2 : E < 1048576) : qe_ok (qn_u ev (E % 16) E) := by
  intro c hn
  rcases qn_c ev (E % 16) E c with ⟨h, e⟩ | ⟨h, e⟩
  · rw [e]; exact ⟨by omega, h.symm, h2⟩
  · rw [e] at hn ⊢; exact ok c hn
theorem qe_ok0 {ev : Nat → Nat} {c : Nat} (ok : qe_ok ev) : qe_ok (qn_u ev c 0) := by
  intro d hn
  rcases qn_c ev c 0 d with ⟨h, e⟩ | ⟨h, e⟩
  · rw [e] at hn; exact absurd rfl hn
  · rw [e] at hn ⊢; exact ok d hn
/-- the new event is ev[E % 16 := E], and there was none -/
def qe_new (ev : Nat → Nat) (E : Nat) : Prop := E ≠ 0 ∧ E % 16 < 12 ∧ E < 1048576 ∧ ev (E % 16) = 0
end
section
/-- engine 0: a heap h of p events which holds just the events of ev -/
def qh_C (p : Nat) (h ev : Nat → Nat) : Prop := (∀ i, i < p → h i ≠ 0 ∧ ev (h i % 16) = h i) ∧ (∀ c, ev c ≠ 0 → ∃ i, i < p ∧ h i = ev c) ∧ (∀ i j, i < p → j < p → h i = h j → i = j)
def qh_R (p : Nat) (a : Nat → Int32) (ev : Nat → Nat) : Prop := ∃ h : Nat → Nat, (∀ i, i < p → a i = nI (h i)) ∧ qh_C p h ev ∧ (∀ i, 0 < i → i < p → h ((i - 1) / 2) ≤ h i)
def qh_sw (h : Nat → Nat) (i k : Nat) : Nat → Nat := fun j => if j = i then h k else if j = k then h i else h j
theorem qh_sw1 (h : Nat → Nat) (i k : Nat) : qh_sw h i k i = h k := if_pos rfl
theorem qh_sw2 (h : Nat → Nat) (i k : Nat) : qh_sw h i k k = h i := by
  unfold qh_sw
  by_cases e : k = i
  · rw [if_pos e, e]
  · rw [if_neg e, if_pos rfl]
theorem qh_sw3 {h : Nat → Nat} {i k j : Nat} (h1 : j ≠ i) (h2 : j ≠ k) : qh_sw h i k j = h j := by
  unfold qh_sw
  rw [if_neg h1, if_neg h2]
theorem qh_sw0 (h : Nat → Nat) (i k j : Nat) : (j = i ∧ qh_sw h i k j = h k) ∨ (j = k ∧ qh_sw h i k j = h i) ∨ (j ≠ i ∧ j ≠ k ∧ qh_sw h i k j = h j) := by
  by_cases e : j = i
  · exact Or.inl ⟨e, by rw [e, qh_sw1]⟩
  · by_cases e2 : j = k
    · exact Or.inr (Or.inl ⟨e2, by rw [e2, qh_sw2]⟩)
    · exact Or.inr (Or.inr ⟨e, e2, qh_sw3 e e2⟩)
theorem qh_swC {p i k : Nat} {h ev : Nat → Nat} (hi : i < p) (hk : k < p) (C : qh_C p h ev) : qh_C p (qh_sw h i k) ev := by
  obtain ⟨c1, c2, c3⟩ := C
  refine ⟨fun j hj => ?_, fun c hn => ?_, fun a b ha hb e => ?_⟩
  · rcases qh_sw0 h i k j with ⟨_, e⟩ | ⟨_, e⟩ | ⟨_, _, e⟩
    · rw [e]; exact c1 k hk
    · rw [e]; exact c1 i hi
    · rw [e]; exact c1 j hj
  · obtain ⟨j, hj, e⟩ := c2 c hn
    by_cases e1 : j = i
    · exact ⟨k, hk, by rw [qh_sw2, ← e1, e]⟩
    · by_cases e2 : j = k
      · exact ⟨i, hi, by rw [qh_sw1, ← e2, e]⟩
      · exact ⟨j, hj, by rw [qh_sw3 e1 e2, e]⟩
  · rcases qh_sw0 h i k a with ⟨x, ea⟩ | ⟨x, ea⟩ | ⟨x, x', ea⟩ <;> rcases qh_sw0 h i k b with ⟨y, eb⟩ | ⟨y, eb⟩ | ⟨y, y', eb⟩ <;> rw [ea, eb] at e
    · omega
    · have := c3 k i hk hi e; omega
    · have := c3 k b hk hb e; omega
    · have := c3 i k hi hk e; omega
    · omega
    · have := c3 i b hi hb e; omega
    · have := c3 a k ha hk e; omega
    · have := c3 a i ha hi e; omega
    · exact c3 a b ha hb e
theorem qh_lt {p : Nat} {h ev : Nat → Nat} (ok : qe_ok ev) (C : qh_C p h ev) {i : Nat} (hi : i < p) : h i < 1048576 := by
  obtain ⟨h0, h1⟩ := C.1 i hi
  have := (ok (h i % 16) (by omega)).2.2
  omega
theorem qh_par {i : Nat} (h0 : 0 < i) (hi : i < 1048576) : (nI i - 1) / 2 = nI ((i - 1) / 2) := by
  rw [qn_s1 h0]
  exact pk_div (d := 2) (by omega) (by decide) (by decide)
/-- the way up: a hole at i, where the event E is to stand -/
def qh_HU (p : Nat) (h : Nat → Nat) (i : Nat) : Prop := (∀ j, 0 < j → j < p → j ≠ i → h ((j - 1) / 2) ≤ h j) ∧ (0 < i → ∀ j, 0 < j → j < p → (j - 1) / 2 = i → h ((i - 1) / 2) ≤ h j)
theorem qh_up {post : St1 → Prop} {cu ch en pe td rt lk : Int32} {a1 a2 a3 a4 a5 a6 a7 a8 a9 a10 a11 a12 a13 a14 a15 a16 a17 a18 a19 a21 a22 a23 a24 a25 a26 a27 : Nat → Int32} {p E : Nat} {ev : Nat → Nat} (hp : p < 16) (ok : qe_ok ev) (H : ∀ a20', qh_R (p + 1) a20' ev → post (cu, ch, en, pe, td, rt, lk, a1, a2, a3, a4, a5, a6, a7, a8, a9, a10, a11, a12, a13, a14, a15, a16, a17, a18, a19, a20', a21, a22, a23, a24, a25, a26, a27)) :
    ∀ (n i : Nat) (h : Nat → Nat) (a20 : Nat → Int32), i < n → i ≤ p → (∀ j, j < p + 1 → j ≠ i → a20 j = nI (h j)) → h i = E → qh_C (p + 1) h ev → qh_HU (p + 1) h i → wX_heapAdd_5 post (nI E) cu ch en pe td rt lk n (nI i) a1 a2 a3 a4 a5 a6 a7 a8 a9 a10 a11 a12 a13 a14 a15 a16 a17 a18 a19 a20 a21 a22 a23 a24 a25 a26 a27 := by
  intro n
  induction n with
  | zero => intro i h a20 hn; omega
  | succ n ih =>
    intro i h a20 hn hi hA hE hC hU
    have hb : ∀ j, j < p + 1 → h j < 1048576 := fun j hj => qh_lt ok hC hj
    have fin : (∀ j, 0 < j → j < p + 1 → h ((j - 1) / 2) ≤ h j) → post (cu, ch, en, pe, td, rt, lk, a1, a2, a3, a4, a5, a6, a7, a8, a9, a10, a11, a12, a13, a14, a15, a16, a17, a18, a19, upd a20 (nI i).toNatClampNeg (nI E), a21, a22, a23, a24, a25, a26, a27) := by
      intro hh
      refine H _ ⟨h, fun j hj => ?_, hC, hh⟩
      rw [qn_cl (show i < 1048576 by omega)]
      by_cases e : j = i
      · rw [e, pk_us, hE]
      · rw [pk_un e]; exact hA j hj e
    refine pk_le i 0 (fun z => ⟨pk_in i 16 (by omega), nm_e (fin ?_)⟩) (fun z => ⟨qn_2, pk_in ((i - 1) / 2) 16 (by omega) (qh_par z (by omega)), ?_⟩)
    · intro j h0 hj
      exact hU.1 j h0 hj (by omega)
    · have hpv : a20 ((nI i - 1) / 2).toNatClampNeg = nI (h ((i - 1) / 2)) := by
        rw [qh_par z (by omega), qn_cl (by omega)]
        exact hA _ (by omega) (by omega)
      have hb1 := hb ((i - 1) / 2) (by omega)
      have hb2 := hb i (by omega)
      refine pk_le (h ((i - 1) / 2)) E (fun y => ⟨pk_in i 16 (by omega), nm_e (fin ?_)⟩) (fun y => ⟨qn_2, pk_in ((i - 1) / 2) 16 (by omega) (qh_par z (by omega)), pk_in i 16 (by omega), nm_e ⟨qn_2, nm_r (qh_par z (by omega)) ?_⟩⟩) hpv
      · intro j h0 hj
        by_cases e : j = i
        · rw [e, hE]; exact y
        · exact hU.1 j h0 hj e
      · refine ih ((i - 1) / 2) (qh_sw h i ((i - 1) / 2)) _ (by omega) (by omega) ?_ ?_ (qh_swC (by omega) (by omega) hC) ?_
        · intro j hj hne
          rw [qn_cl (show i < 1048576 by omega), hpv]
          by_cases e : j = i
          · rw [e, pk_us, qh_sw1]
          · rw [pk_un e, qh_sw3 e hne]
            exact hA j hj e
        · rw [qh_sw2, hE]
        · refine ⟨fun j h0 hj hne => ?_, fun g0 j h0 hj e => ?_⟩
          · by_cases e : j = i
            · rw [e, qh_sw1, qh_sw2, hE]; omega
            · rw [qh_sw3 e hne]
              by_cases e2 : (j - 1) / 2 = i
              · rw [e2, qh_sw1]
                exact hU.2 z j h0 hj e2
              · by_cases e3 : (j - 1) / 2 = (i - 1) / 2
                · rw [e3, qh_sw2, hE]
                  have := hU.1 j h0 hj e
                  rw [e3] at this
                  omega
                · rw [qh_sw3 e2 e3]
                  exact hU.1 j h0 hj e
          · rw [qh_sw3 (j := ((i - 1) / 2 - 1) / 2) (by omega) (by omega)]
            have q1 := hU.1 ((i - 1) / 2) g0 (by omega) (by omega)
            by_cases e4 : j = i
            · rw [e4, qh_sw1]; exact q1
            · rw [qh_sw3 e4 (by omega)]
              have q2 := hU.1 j h0 hj e4
              rw [e] at q2
              omega
theorem qh_add {post : St1 → Prop} {cu ch en pe td rt lk : Int32} {a1 a2 a3 a4 a5 a6 a7 a8 a9 a10 a11 a12 a13 a14 a15 a16 a17 a18 a19 a20 a21 a22 a23 a24 a25 a26 a27 : Nat → Int32} {p E : Nat} {ev : Nat → Nat} (hp : p < 12) (hpe : pe = nI p) (ok : qe_ok ev) (hE : qe_new ev E) (R : qh_R p a20 ev)
    (H : ∀ a20', qh_R (p + 1) a20' (qn_u ev (E % 16) E) → post (cu, ch, en, pe, td, rt, lk, a1, a2, a3, a4, a5, a6, a7, a8, a9, a10, a11, a12, a13, a14, a15, a16, a17, a18, a19, a20', a21, a22, a23, a24, a25, a26, a27)) : wpX_heapAdd post (cu, ch, en, pe, td, rt, lk, a1, a2, a3, a4, a5, a6, a7, a8, a9, a10, a11, a12, a13, a14, a15, a16, a17, a18, a19, a20, a21, a22, a23, a24, a25, a26, a27) (nI E) := by
  obtain ⟨h, hA, ⟨c1, c2, c3⟩, hh⟩ := R
  obtain ⟨e0, e1, e2, e3⟩ := hE
  subst hpe
  refine Exists.intro (p + 1) (qh_up (ev := qn_u ev (E % 16) E) (by omega) (qe_oku ok e1 e2) H (p + 1) p (qn_u h p E) a20 (by omega) (by omega) (fun j hj hne => ?_) qn_us ⟨fun i hi => ?_, fun c hn => ?_, fun i j hi hj e => ?_⟩ ⟨fun j h0 hj hne => ?_, fun g0 j h0 hj e => ?_⟩)
  · rw [qn_un hne]; exact hA j (by omega)
  · by_cases ei : i = p
    · rw [ei, qn_us, qn_us]; exact ⟨e0, rfl⟩
    · rw [qn_un ei]
      obtain ⟨d0, d1⟩ := c1 i (by omega)
      refine ⟨d0, ?_⟩
      rw [qn_un]
      · exact d1
      · intro z; rw [z, e3] at d1; omega
  · rcases qn_c ev (E % 16) E c with ⟨h1, e⟩ | ⟨h1, e⟩
    · exact ⟨p, by omega, by rw [qn_us, e]⟩
    · rw [e] at hn ⊢
      obtain ⟨i, hi, g⟩ := c2 c hn
      exact ⟨i, by omega, by rw [qn_un (by omega), g]⟩
  · have key : ∀ k, k < p → h k ≠ E := by
      intro k hk z
      have := (c1 k hk).2
      rw [z, e3] at this
      omega
    rcases qn_c h p E i with ⟨x, ex⟩ | ⟨x, ex⟩ <;> rcases qn_c h p E j with ⟨y, ey⟩ | ⟨y, ey⟩ <;> rw [ex, ey] at e
    · omega
    · exact absurd e.symm (key j (by omega))
    · exact absurd e (key i (by omega))
    · exact c3 i j (by omega) (by omega) e
  · rw [qn_un hne, qn_un (by omega)]
    exact hh j h0 (by omega)
  · omega
/-- the way down: a hole at i, where the last event x is to stand, among q events -/
def qh_HD (q : Nat) (h : Nat → Nat) (i : Nat) : Prop := (∀ j, 0 < j → j < q → (j - 1) / 2 ≠ i → h ((j - 1) / 2) ≤ h j) ∧ (0 < i → ∀ j, 0 < j → j < q → (j - 1) / 2 = i → h ((i - 1) / 2) ≤ h j)
theorem qh_dn {post : Int32 → St1 → Prop} {cu ch en pe td rt lk : Int32} {a1 a2 a3 a4 a5 a6 a7 a8 a9 a10 a11 a12 a13 a14 a15 a16 a17 a18 a19 a21 a22 a23 a24 a25 a26 a27 : Nat → Int32} {q E : Nat} {x1 : Int32} {ev : Nat → Nat} (hq : q < 12) (hpe : pe = nI (q + 1)) (hE : E < 1048576) (ok : qe_ok ev) (H : ∀ a20', qh_R q a20' ev → post x1 (cu, ch, en, pe, td, rt, lk, a1, a2, a3, a4, a5, a6, a7, a8, a9, a10, a11, a12, a13, a14, a15, a16, a17, a18, a19, a20', a21, a22, a23, a24, a25, a26, a27)) :
    ∀ (n i g : Nat) (h : Nat → Nat) (a20 : Nat → Int32), (g = 0 ∨ g = 1) → 2 * (q - i) + g < n → (i < q ∨ i = 0) → (∀ j, j < q → j ≠ i → a20 j = nI (h j)) → (i < q → h i = E) → qh_C q h ev → qh_HD q h i → (g = 0 → ∀ j, 0 < j → j < q → (j - 1) / 2 = i → E ≤ h j) → wX_heapTake_24 post x1 (nI E) cu ch en pe td rt lk n (nI i) (nI g) a1 a2 a3 a4 a5 a6 a7 a8 a9 a10 a11 a12 a13 a14 a15 a16 a17 a18 a19 a20 a21 a22 a23 a24 a25 a26 a27 := by
  intro n
  induction n with
  | zero => intro i g h a20 _ hn; omega
  | succ n ih =>
    intro i g h a20 hg hn hi hA hE' hC hD hz
    subst hpe
    have hb : ∀ j, j < q → h j < 1048576 := fun j hj => qh_lt ok hC hj
    have fin : (∀ j, 0 < j → j < q → (j - 1) / 2 = i → E ≤ h j) → post x1 (cu, ch, en, nI (q + 1), td, rt, lk, a1, a2, a3, a4, a5, a6, a7, a8, a9, a10, a11, a12, a13, a14, a15, a16, a17, a18, a19, upd a20 (nI i).toNatClampNeg (nI E), a21, a22, a23, a24, a25, a26, a27) := by
      intro hh
      refine H _ ⟨h, fun j hj => ?_, hC, fun j h0 hj => ?_⟩
      · rw [qn_cl (show i < 1048576 by omega)]
        by_cases e : j = i
        · rw [e, pk_us, hE' (by omega)]
        · rw [pk_un e]; exact hA j hj e
      · by_cases e : (j - 1) / 2 = i
        · have := hh j h0 hj e
          rw [e, hE' (by omega)]; exact this
        · exact hD.1 j h0 hj e
    have hch : 2 * nI i + 1 = nI (2 * i + 1) := by
      rw [show (2 : Int32) = nI 2 from rfl, pk_mul, nI_1]
    have hpm : nI (q + 1) - 1 = nI q := nI_pred q
    refine pk_eq g 0 (fun z => ⟨pk_in i 16 (by omega), nm_e (fin (hz z))⟩) (fun z => ?_)
    refine pk_le q (2 * i + 1) (fun y => ⟨pk_in i 16 (by omega), nm_e (fin (fun j h0 hj e => by omega))⟩) (fun y => nm_r hch ?_) hpm hch
    -- which child
    have down : ∀ k, k < q → (k = 2 * i + 1 ∨ k = 2 * i + 2) → (∀ j, 0 < j → j < q → (j - 1) / 2 = i → h k ≤ h j) → ∀ (z0 z1 : Int32), z1 + z0 = nI k → wX_heapTake_89 post (wX_heapTake_24 post x1 (nI E) cu ch en (nI (q + 1)) td rt lk n) x1 (nI E) (nI i) z0 z1 cu ch en (nI (q + 1)) td rt lk a1 a2 a3 a4 a5 a6 a7 a8 a9 a10 a11 a12 a13 a14 a15 a16 a17 a18 a19 a20 a21 a22 a23 a24 a25 a26 a27 := by
      intro k hk hk2 hmin z0 z1 hz01
      have hak : a20 (nI k).toNatClampNeg = nI (h k) := by
        rw [qn_cl (by omega)]; exact hA k hk (by omega)
      have hbk := hb k hk
      refine nm_r hz01 ⟨pk_in k 16 (by omega), ?_⟩
      refine pk_le E (h k) (fun w => br_t rfl ?_) (fun w => br_f (by decide) ⟨pk_in k 16 (by omega), pk_in i 16 (by omega), nm_e ?_⟩) rfl hak
      · exact ih i 0 h a20 (Or.inl rfl) (by omega) hi hA hE' hC hD (fun _ j h0 hj e => Nat.le_trans w (hmin j h0 hj e))
      · refine ih k 1 (qh_sw h i k) _ (Or.inr rfl) (by omega) (Or.inl hk) (fun j hj hne => ?_) (fun _ => ?_) (qh_swC (by omega) hk hC) ⟨fun j h0 hj e => ?_, fun g0 j h0 hj e => ?_⟩ (fun e => by omega)
        · rw [hak, qn_cl (show i < 1048576 by omega)]
          by_cases e : j = i
          · rw [e, pk_us, qh_sw1]
          · rw [pk_un e, qh_sw3 e hne]; exact hA j hj e
        · rw [qh_sw2]; exact hE' (by omega)
        · by_cases e1 : j = i
          · rw [e1, qh_sw1, qh_sw3 (by omega) (by omega)]
            exact hD.2 (by omega) k (by omega) hk (by omega)
          · by_cases e2 : j = k
            · rw [e2, qh_sw2, show (k - 1) / 2 = i by omega, qh_sw1, hE' (by omega)]
              omega
            · rw [qh_sw3 e1 e2]
              by_cases e3 : (j - 1) / 2 = i
              · rw [e3, qh_sw1]; exact hmin j h0 hj e3
              · rw [qh_sw3 e3 e]; exact hD.1 j h0 hj e3
        · rw [show (k - 1) / 2 = i by omega, qh_sw1, qh_sw3 (by omega) (by omega)]
          have := hD.1 j h0 hj (by omega)
          rw [e] at this
          exact this
    have hch2 : nI (2 * i + 1) + 1 = nI (2 * i + 2) := nI_1 _
    refine pk_le q (2 * i + 2) (fun x => ?_) (fun x => ⟨pk_in (2 * i + 2) 16 (by omega) hch2, pk_in (2 * i + 1) 16 (by omega), ?_⟩) hpm hch2
    · exact down (2 * i + 1) y (Or.inl rfl) (fun j h0 hj e => by rw [show j = 2 * i + 1 by omega]; omega) 0 (nI (2 * i + 1)) (by rw [← nI_0, nI_add])
    · have v1 : a20 (nI (2 * i + 1)).toNatClampNeg = nI (h (2 * i + 1)) := by
        rw [qn_cl (by omega)]; exact hA _ (by omega) (by omega)
      have v2 : a20 (nI (2 * i + 1) + 1).toNatClampNeg = nI (h (2 * i + 2)) := by
        rw [hch2, qn_cl (by omega)]; exact hA _ (by omega) (by omega)
      have b1 := hb (2 * i + 1) (by omega)
      have b2 := hb (2 * i + 2) (by omega)
      have two : ∀ j, 0 < j → (j - 1) / 2 = i → j = 2 * i + 1 ∨ j = 2 * i + 2 := by intro j h0 e; omega
      refine pk_le (h (2 * i + 1)) (h (2 * i + 2)) (fun w => ?_) (fun w => ?_) v1 v2
      · exact down (2 * i + 1) y (Or.inl rfl) (fun j h0 hj e => by rcases two j h0 e with t | t <;> rw [t] <;> omega) 0 (nI (2 * i + 1)) (by rw [← nI_0, nI_add])
      · exact down (2 * i + 2) x (Or.inr rfl) (fun j h0 hj e => by rcases two j h0 e with t | t <;> rw [t] <;> omega) 1 (nI (2 * i + 1)) hch2
theorem qh_take {post : Int32 → St1 → Prop} {cu ch en pe td rt lk : Int32} {a1 a2 a3 a4 a5 a6 a7 a8 a9 a10 a11 a12 a13 a14 a15 a16 a17 a18 a19 a20 a21 a22 a23 a24 a25 a26 a27 : Nat → Int32} {q : Nat} {ev : Nat → Nat} (hq : q < 12) (hpe : pe = nI (q + 1)) (ok : qe_ok ev) (R : qh_R (q + 1) a20 ev)
    (H : ∀ x a20', qe_L ev x → qh_R q a20' (qn_u ev (x % 16) 0) → post (nI x) (cu, ch, en, pe, td, rt, lk, a1, a2, a3, a4, a5, a6, a7, a8, a9, a10, a11, a12, a13, a14, a15, a16, a17, a18, a19, a20', a21, a22, a23, a24, a25, a26, a27)) : wpX_heapTake post (cu, ch, en, pe, td, rt, lk, a1, a2, a3, a4, a5, a6, a7, a8, a9, a10, a11, a12, a13, a14, a15, a16, a17, a18, a19, a20, a21, a22, a23, a24, a25, a26, a27) := by
  obtain ⟨h, hA, C, hh⟩ := R
  have hb : ∀ j, j < q + 1 → h j < 1048576 := fun j hj => qh_lt ok C hj
  obtain ⟨c1, c2, c3⟩ := C
  subst hpe
  have hmin : ∀ j, j < q + 1 → h 0 ≤ h j := by
    intro j
    induction j using Nat.strongRecOn with
    | ind j ih =>
      intro hj
      rcases Nat.eq_zero_or_pos j with z | z
      · rw [z]; exact Nat.le_refl _
      · exact Nat.le_trans (ih ((j - 1) / 2) (by omega) (by omega)) (hh j z hj)
  have hL : qe_L ev (h 0) := by
    refine ⟨(c1 0 (by omega)).1, ⟨h 0 % 16, (ok _ ?_).1, (c1 0 (by omega)).2⟩, fun c hn => ?_⟩
    · rw [(c1 0 (by omega)).2]; exact (c1 0 (by omega)).1
    · obtain ⟨i, hi, e⟩ := c2 c hn
      rw [← e]; exact hmin i hi
  refine nm_r (hA 0 (by omega)) ⟨pk_in q 16 (by omega) (nI_pred q), nm_r (show a20 (nI (q + 1) - 1).toNatClampNeg = nI (h q) by rw [nI_pred, qn_cl (by omega)]; exact hA q (by omega)) ⟨2 * q + 2, ?_⟩⟩
  have hC : qh_C q (qn_u h 0 (h q)) (qn_u ev (h 0 % 16) 0) := by
    have sep : ∀ i, 0 < i → i < q + 1 → h i % 16 ≠ h 0 % 16 := by
      intro i h0 hi z
      have d1 := (c1 i hi).2
      have d2 := (c1 0 (by omega)).2
      rw [z, d2] at d1
      have := c3 0 i (by omega) hi d1
      omega
    refine ⟨fun i hi => ?_, fun c hn => ?_, fun i j hi hj e => ?_⟩
    · rcases qn_c h 0 (h q) i with ⟨x, ex⟩ | ⟨x, ex⟩
      · rw [ex, qn_un (sep q (by omega) (by omega))]; exact c1 q (by omega)
      · rw [ex, qn_un (sep i (by omega) (by omega))]; exact c1 i (by omega)
    · rcases qn_c ev (h 0 % 16) 0 c with ⟨x, ex⟩ | ⟨x, ex⟩
      · rw [ex] at hn; exact absurd rfl hn
      · rw [ex] at hn ⊢
        obtain ⟨i, hi, e⟩ := c2 c hn
        have i0 : i ≠ 0 := by
          intro z
          rw [z] at e
          have := (ok c hn).2.1
          rw [← e] at this
          omega
        by_cases iq : i = q
        · exact ⟨0, by omega, by rw [qn_us, ← iq, e]⟩
        · exact ⟨i, by omega, by rw [qn_un i0, e]⟩
    · rcases qn_c h 0 (h q) i with ⟨x, ex⟩ | ⟨x, ex⟩ <;> rcases qn_c h 0 (h q) j with ⟨y, ey⟩ | ⟨y, ey⟩ <;> rw [ex, ey] at e
      · omega
      · have := c3 q j (by omega) (by omega) e; omega
      · have := c3 i q (by omega) (by omega) e; omega
      · exact c3 i j (by omega) (by omega) e
  refine qh_dn (ev := qn_u ev (h 0 % 16) 0) (q := q) (E := h q) hq rfl (hb q (by omega)) (qe_ok0 ok) (fun a20' R' => H (h 0) a20' hL R') (2 * q + 2) 0 1 (qn_u h 0 (h q)) a20 (Or.inr rfl) (by omega) (Or.inr rfl) (fun j hj hne => ?_) (fun _ => qn_us) hC ⟨fun j h0 hj e => ?_, fun z => by omega⟩ (fun z => by omega)
  · rw [qn_un hne]; exact hA j (by omega)
  · rw [qn_un (by omega), qn_un (by omega)]; exact hh j h0 (by omega)
theorem qh_next {q : Nat} {ev : Nat → Nat} {a20 : Nat → Int32} (ok : qe_ok ev) (R : qh_R (q + 1) a20 ev) : ∃ x, a20 0 = nI x ∧ qe_L ev x ∧ x < 1048576 := by
  obtain ⟨h, hA, C, hh⟩ := R
  have hb := qh_lt ok C (i := 0) (by omega)
  obtain ⟨c1, c2, c3⟩ := C
  have hmin : ∀ j, j < q + 1 → h 0 ≤ h j := by
    intro j
    induction j using Nat.strongRecOn with
    | ind j ih =>
      intro hj
      rcases Nat.eq_zero_or_pos j with z | z
      · rw [z]; exact Nat.le_refl _
      · exact Nat.le_trans (ih ((j - 1) / 2) (by omega) (by omega)) (hh j z hj)
  refine ⟨h 0, hA 0 (by omega), ⟨(c1 0 (by omega)).1, ⟨h 0 % 16, (ok _ ?_).1, (c1 0 (by omega)).2⟩, fun c hn => ?_⟩, hb⟩
  · rw [(c1 0 (by omega)).2]; exact (c1 0 (by omega)).1
  · obtain ⟨i, hi, e⟩ := c2 c hn
    rw [← e]; exact hmin i hi
end
section
/-- a way through links from a over the customers of l to b -/
def ql_s (nx : Nat → Int32) : List Nat → Int32 → Int32 → Prop
  | [], a, b => a = b
  | c :: l, a, b => a = nI c ∧ ql_s nx l (nx c) b
theorem ql_fr {nx nx' : Nat → Int32} : ∀ {l : List Nat} {a b : Int32}, (∀ c, c ∈ l → nx' c = nx c) → ql_s nx l a b → ql_s nx' l a b := by
  intro l
  induction l with
  | nil => intro a b _ h; exact h
  | cons c l ih =>
    intro a b hf h
    refine ⟨h.1, ?_⟩
    rw [hf c (List.mem_cons_self ..)]
    exact ih (fun d hd => hf d (List.mem_cons_of_mem c hd)) h.2
theorem ql_ap {nx : Nat → Int32} : ∀ {l m : List Nat} {a b c : Int32}, ql_s nx l a b → ql_s nx m b c → ql_s nx (l ++ m) a c := by
  intro l
  induction l with
  | nil => intro m a b c h g; rw [show a = b from h]; exact g
  | cons d l ih =>
    intro m a b c h g
    exact ⟨h.1, ih h.2 g⟩
theorem ql_sp {nx : Nat → Int32} : ∀ {l m : List Nat} {a c : Int32}, ql_s nx (l ++ m) a c → ∃ b, ql_s nx l a b ∧ ql_s nx m b c := by
  intro l
  induction l with
  | nil => intro m a c h; exact ⟨a, rfl, h⟩
  | cons d l ih =>
    intro m a c h
    obtain ⟨b, h1, h2⟩ := ih h.2
    exact ⟨b, ⟨h.1, h1⟩, h2⟩
theorem ql_hd {nx : Nat → Int32} {l : List Nat} {a : Int32} (h : ql_s nx l a (-1)) (hb : ∀ c, c ∈ l → c < 12) : (l = [] ∧ a = -1) ∨ (∃ c m, l = c :: m ∧ a = nI c ∧ c < 12 ∧ ql_s nx m (nx c) (-1)) := by
  match l, h, hb with
  | [], h, _ => exact Or.inl ⟨rfl, h⟩
  | c :: m, h, hb => exact Or.inr ⟨c, m, rfl, h.1, hb c (List.mem_cons_self ..), h.2⟩
theorem ql_by {nx : Nat → Int32} {l : List Nat} {a : Int32} (h : ql_s nx l a (-1)) (hb : ∀ c, c ∈ l → c < 12) : a.toInt8.toInt32 = a ∧ vp_nar .byte a = a := by
  rcases ql_hd h hb with ⟨_, e⟩ | ⟨c, m, _, e, hc, _⟩
  · rw [e]; exact ⟨qn_bm, qn_vm⟩
  · rw [e]; exact ⟨qn_b c (by omega), qn_vb (by omega)⟩
/-- engine 1 -/
def qc_Q (a21 a22 a23 : Nat → Int32) (td : Int32) (ev : Nat → Nat) (L : Nat → List Nat) (t : Nat) : Prop :=
  (∀ d, d < 16 → ql_s a22 (L d) (a21 d) (-1)) ∧ (∀ d, d < 16 → ∀ c, c ∈ L d ↔ ev c ≠ 0 ∧ ev c / 32 % 16 = d) ∧ (∀ d, d < 16 → (L d).Pairwise (fun a b => ev a < ev b)) ∧ (∀ c, ev c ≠ 0 → a23 c = nI (ev c) ∧ t ≤ ev c / 32) ∧ td = nI t ∧ t < 1048576
def qc_R (a21 a22 a23 : Nat → Int32) (td : Int32) (ev : Nat → Nat) (lb : Nat) : Prop := ∃ L, qc_Q a21 a22 a23 td ev L (lb / 32)
theorem qc_ne {ev : Nat → Nat} {c d : Nat} (ok : qe_ok ev) (hc : ev c ≠ 0) (hd : ev d ≠ 0) (h : c ≠ d) : ev c ≠ ev d := by
  intro e
  have h1 := (ok c hc).2.1
  have h2 := (ok d hd).2.1
  rw [e] at h1
  omega
theorem qc_add63 {post : St1 → Prop} {cu ch en pe td rt lk : Int32} {a1 a2 a3 a4 a5 a6 a7 a8 a9 a10 a11 a12 a13 a14 a15 a16 a17 a18 a19 a20 a21 a22 a23 a24 a25 a26 a27 : Nat → Int32} {E t : Nat} {ev : Nat → Nat} {L : Nat → List Nat} {x4 x5 : Int32} {pr su : List Nat} {a23' : Nat → Int32} (ok : qe_ok ev) (hE : qe_new ev E) (ht : t ≤ E / 32) (R : qc_Q a21 a22 a23 td ev L t)
    (hl : L (E / 32 % 16) = pr ++ su) (h4 : (pr = [] ∧ x4 = -1) ∨ (∃ pr' b, pr = pr' ++ [b] ∧ x4 = nI b)) (h5 : ql_s a22 pr (a21 (E / 32 % 16)) x5) (h6 : ql_s a22 su x5 (-1)) (hpr : ∀ b, b ∈ pr → ev b < E) (hsu : ∀ b, b ∈ su → E < ev b) (ha23 : a23' = upd a23 (E % 16) (nI E))
    (H : ∀ a21' a22' L', qc_Q a21' a22' a23' td (qn_u ev (E % 16) E) L' t → post (cu, ch, en, pe, td, rt, lk, a1, a2, a3, a4, a5, a6, a7, a8, a9, a10, a11, a12, a13, a14, a15, a16, a17, a18, a19, a20, a21', a22', a23', a24, a25, a26, a27)) : wX_calendarAdd_63 post (nI (E % 16)) (nI (E / 32 % 16)) x4 x5 cu ch en pe td rt lk a1 a2 a3 a4 a5 a6 a7 a8 a9 a10 a11 a12 a13 a14 a15 a16 a17 a18 a19 a20 a21 a22 a23' a24 a25 a26 a27 := by
  obtain ⟨r1, r2, r3, r4, r5, r6⟩ := R
  obtain ⟨e0, e1, e2, e3⟩ := hE
  have hday : E / 32 % 16 < 16 := Nat.mod_lt _ (by decide)
  have hmem : ∀ b, b ∈ pr ++ su → ev b ≠ 0 ∧ ev b / 32 % 16 = E / 32 % 16 := by
    intro b hb
    rw [← hl] at hb
    exact (r2 _ hday b).mp hb
  have hcn : ∀ d, d < 16 → E % 16 ∉ L d := fun d hd hm => absurd e3 ((r2 d hd _).mp hm).1
  have hcp : E % 16 ∉ pr ++ su := by rw [← hl]; exact hcn _ hday
  have hb12 : ∀ b, b ∈ pr ++ su → b < 12 := fun b hb => (ok b (hmem b hb).1).1
  have hpw : (pr ++ su).Pairwise (fun a b => ev a < ev b) := by rw [← hl]; exact r3 _ hday
  have key : ∀ a21' a22', (∀ d, d < 16 → d ≠ E / 32 % 16 → a21' d = a21 d) → (∀ b, b ≠ E % 16 → b ∉ pr ++ su → a22' b = a22 b) → ql_s a22' (pr ++ (E % 16) :: su) (a21' (E / 32 % 16)) (-1) → post (cu, ch, en, pe, td, rt, lk, a1, a2, a3, a4, a5, a6, a7, a8, a9, a10, a11, a12, a13, a14, a15, a16, a17, a18, a19, a20, a21', a22', a23', a24, a25, a26, a27) := by
    intro a21' a22' q1 q2 q3
    refine H a21' a22' (qn_u L (E / 32 % 16) (pr ++ (E % 16) :: su)) ⟨fun d hd => ?_, fun d hd c => ?_, fun d hd => ?_, fun c hn => ?_, r5, r6⟩
    · rcases qn_c L (E / 32 % 16) (pr ++ (E % 16) :: su) d with ⟨x, ex⟩ | ⟨x, ex⟩
      · rw [ex, x]; exact q3
      · rw [ex, q1 d hd x]
        refine ql_fr (fun b hb => q2 b (fun z => ?_) (fun z => ?_)) (r1 d hd)
        · exact hcn d hd (by rw [← z]; exact hb)
        · have z1 := (hmem b z).2
          have z2 := ((r2 d hd b).mp hb).2
          omega
    · rcases qn_c L (E / 32 % 16) (pr ++ (E % 16) :: su) d with ⟨x, ex⟩ | ⟨x, ex⟩ <;> rw [ex]
      · rcases qn_c ev (E % 16) E c with ⟨y, ey⟩ | ⟨y, ey⟩ <;> rw [ey]
        · refine ⟨fun _ => ⟨e0, x.symm⟩, fun _ => ?_⟩
          rw [y]; exact List.mem_append_right _ (List.mem_cons_self ..)
        · rw [List.mem_append, List.mem_cons]
          have := r2 d hd c
          rw [x, hl, List.mem_append] at this
          rw [x]
          rw [← this]
          constructor
          · rintro (z | z | z)
            · exact Or.inl z
            · exact absurd z y
            · exact Or.inr z
          · rintro (z | z)
            · exact Or.inl z
            · exact Or.inr (Or.inr z)
      · rcases qn_c ev (E % 16) E c with ⟨y, ey⟩ | ⟨y, ey⟩ <;> rw [ey]
        · refine ⟨fun z => absurd (by rw [← y]; exact z) (hcn d hd), fun z => absurd z.2 (by omega)⟩
        · exact r2 d hd c
    · have hev : ∀ b, b ∈ pr ++ su → qn_u ev (E % 16) E b = ev b := fun b hb => qn_un (fun z => hcp (by rw [← z]; exact hb))
      rcases qn_c L (E / 32 % 16) (pr ++ (E % 16) :: su) d with ⟨x, ex⟩ | ⟨x, ex⟩ <;> rw [ex]
      · rw [List.pairwise_append] at hpw ⊢
        obtain ⟨p1, p2, p3⟩ := hpw
        refine ⟨?_, ?_, fun a ha b hb => ?_⟩
        · refine List.Pairwise.imp_of_mem (fun {a b} ha hb h => ?_) p1
          rw [hev a (List.mem_append_left _ ha), hev b (List.mem_append_left _ hb)]; exact h
        · rw [List.pairwise_cons]
          refine ⟨fun b hb => ?_, List.Pairwise.imp_of_mem (fun {a b} ha hb h => ?_) p2⟩
          · rw [qn_us, hev b (List.mem_append_right _ hb)]; exact hsu b hb
          · rw [hev a (List.mem_append_right _ ha), hev b (List.mem_append_right _ hb)]; exact h
        · rw [hev a (List.mem_append_left _ ha)]
          rcases List.mem_cons.mp hb with z | z
          · rw [z, qn_us]; exact hpr a ha
          · rw [hev b (List.mem_append_right _ z)]; exact p3 a ha b z
      · refine List.Pairwise.imp_of_mem (fun {a b} ha hb h => ?_) (r3 d hd)
        rw [qn_un (fun z => hcn d hd (by rw [← z]; exact ha)), qn_un (fun z => hcn d hd (by rw [← z]; exact hb))]; exact h
    · rcases qn_c ev (E % 16) E c with ⟨y, ey⟩ | ⟨y, ey⟩
      · rw [ey, ha23, y, pk_us]; exact ⟨rfl, ht⟩
      · rw [ey] at hn ⊢
        rw [ha23, pk_un y]; exact r4 c hn
  have hby : x5.toInt8.toInt32 = x5 := (ql_by h6 (fun c hc => hb12 c (List.mem_append_right _ hc))).1
  refine And.intro (pk_in (E % 16) 12 e1) (nm_e ?_)
  rw [hby, qn_cl (show E % 16 < 1048576 by omega), qn_b _ (by omega)]
  rcases h4 with ⟨hp, hx⟩ | ⟨pr', b, hp, hx⟩
  · rw [hx]
    refine br_f qn_m1' ⟨pk_in (E / 32 % 16) 16 hday, nm_e ?_⟩
    rw [qn_cl (show E / 32 % 16 < 1048576 by omega)]
    refine key _ _ (fun d hd hne => pk_un hne) (fun b hb _ => pk_un hb) ?_
    rw [pk_us, hp]
    refine ⟨rfl, ?_⟩
    rw [pk_us]
    exact ql_fr (fun c hc => pk_un (fun z => hcp (by rw [← z]; exact List.mem_append_right _ hc))) h6
  · have hbm : b ∈ pr ++ su := by rw [hp]; exact List.mem_append_left _ (List.mem_append_right _ (List.mem_cons_self ..))
    have hbl := hb12 b hbm
    have hbc : b ≠ E % 16 := fun z => hcp (by rw [← z]; exact hbm)
    rw [hx]
    refine br_t (nI_pos' (by omega)) ⟨pk_in b 12 hbl, nm_e ?_⟩
    rw [qn_cl (show b < 1048576 by omega)]
    refine key _ _ (fun d _ _ => rfl) (fun d hd hm => ?_) ?_
    · rw [pk_un (fun z => hm (by rw [z]; exact hbm)), pk_un hd]
    · have h5' := h5
      rw [hp] at h5' hpw ⊢
      obtain ⟨m, s1, s2⟩ := ql_sp h5'
      obtain ⟨s3, s4⟩ := s2
      rw [List.append_assoc] at hpw ⊢
      rw [List.pairwise_append] at hpw
      obtain ⟨p1, p2, p3⟩ := hpw
      have nb1 : b ∉ pr' := fun z => absurd (p3 b z b (List.mem_cons_self ..)) (by omega)
      have nb2 : b ∉ su := fun z => by
        have := (List.pairwise_cons.mp p2).1 b z
        omega
      refine ql_ap (b := m) (ql_fr (fun c hc => ?_) s1) ⟨s3, ?_, ?_⟩
      · rw [pk_un (fun z => nb1 (by rw [← z]; exact hc)), pk_un]
        intro z
        exact hcp (by rw [← z, hp]; exact List.mem_append_left _ (List.mem_append_left _ hc))
      · rw [pk_us]
      · rw [pk_un (Ne.symm hbc), pk_us]
        refine ql_fr (fun c hc => ?_) h6
        rw [pk_un (fun z => nb2 (by rw [← z]; exact hc)), pk_un]
        intro z
        exact hcp (by rw [← z]; exact List.mem_append_right _ hc)
theorem qc_add31 {post : St1 → Prop} {cu ch en pe td rt lk : Int32} {a1 a2 a3 a4 a5 a6 a7 a8 a9 a10 a11 a12 a13 a14 a15 a16 a17 a18 a19 a20 a21 a22 a23 a24 a25 a26 a27 : Nat → Int32} {E t : Nat} {ev : Nat → Nat} {L : Nat → List Nat} {a23' : Nat → Int32} (ok : qe_ok ev) (hE : qe_new ev E) (ht : t ≤ E / 32) (R : qc_Q a21 a22 a23 td ev L t) (ha23 : a23' = upd a23 (E % 16) (nI E))
    (H : ∀ a21' a22' L', qc_Q a21' a22' a23' td (qn_u ev (E % 16) E) L' t → post (cu, ch, en, pe, td, rt, lk, a1, a2, a3, a4, a5, a6, a7, a8, a9, a10, a11, a12, a13, a14, a15, a16, a17, a18, a19, a20, a21', a22', a23', a24, a25, a26, a27)) :
    ∀ (su pr : List Nat) (x4 x5 : Int32), L (E / 32 % 16) = pr ++ su → ((pr = [] ∧ x4 = -1) ∨ (∃ pr' b, pr = pr' ++ [b] ∧ x4 = nI b)) → ql_s a22 pr (a21 (E / 32 % 16)) x5 → ql_s a22 su x5 (-1) → (∀ b, b ∈ pr → ev b < E) → wX_calendarAdd_31 post (nI E) (nI (E % 16)) (nI (E / 32 % 16)) cu ch en pe td rt lk a1 a2 a3 a4 a5 a6 a7 a8 a9 a10 a11 a12 a13 a14 a15 a16 a17 a18 a19 a20 a21 a22 a23' a24 a25 a26 a27 (su.length + 1) x4 x5 := by
  have hday : E / 32 % 16 < 16 := Nat.mod_lt _ (by decide)
  intro su
  induction su with
  | nil =>
    intro pr x4 x5 hl h4 h5 h6 hpr
    have e : x5 = -1 := h6
    refine br_t (by rw [e]; exact qn_m1) (qc_add63 ok hE ht R hl h4 h5 h6 hpr (fun b hb => absurd hb (List.not_mem_nil)) ha23 H)
  | cons c su ih =>
    intro pr x4 x5 hl h4 h5 h6 hpr
    obtain ⟨e, h7⟩ := h6
    have hm : c ∈ L (E / 32 % 16) := by rw [hl]; exact List.mem_append_right _ (List.mem_cons_self ..)
    have hc := ((R.2.1 _ hday c).mp hm).1
    obtain ⟨o1, o2, o3⟩ := ok c hc
    have hcE : c ≠ E % 16 := fun z => hc (by rw [z]; exact hE.2.2.2)
    have hv : a23' (nI c).toNatClampNeg = nI (ev c) := by
      rw [qn_cl (by omega), ha23, pk_un hcE]; exact (R.2.2.2.1 c hc).1
    have hpw : (pr ++ c :: su).Pairwise (fun a b => ev a < ev b) := by rw [← hl]; exact R.2.2.1 _ hday
    rw [e]
    refine br_f (nI_pos (by omega)) ⟨pk_in c 12 o1, ?_⟩
    have hEl := hE.2.2.1
    refine pk_le E (ev c) (fun z => ?_) (fun z => ⟨pk_in c 12 o1, nm_e ?_⟩) rfl hv
    · refine qc_add63 ok hE ht R hl h4 (by rw [← e]; exact h5) ⟨rfl, h7⟩ hpr (fun b hb => ?_) ha23 H
      have hlt : E < ev c := by
        rcases Nat.lt_or_ge E (ev c) with y | y
        · exact y
        · have : ev c = E := by omega
          rw [this] at o2
          omega
      rcases List.mem_cons.mp hb with y | y
      · rw [y]; exact hlt
      · have := (List.pairwise_cons.mp (List.pairwise_append.mp hpw).2.1).1 b y
        omega
    · rw [qn_cl (show c < 1048576 by omega)]
      refine ih (pr ++ [c]) (nI c) (a22 c) (by rw [hl, List.append_assoc]; rfl) (Or.inr ⟨pr, c, rfl, rfl⟩) (ql_ap h5 ⟨e, rfl⟩) h7 (fun b hb => ?_)
      rcases List.mem_append.mp hb with y | y
      · exact hpr b y
      · rw [List.mem_singleton.mp y]; exact z
theorem qc_add {post : St1 → Prop} {cu ch en pe td rt lk : Int32} {a1 a2 a3 a4 a5 a6 a7 a8 a9 a10 a11 a12 a13 a14 a15 a16 a17 a18 a19 a20 a21 a22 a23 a24 a25 a26 a27 : Nat → Int32} {E lb : Nat} {ev : Nat → Nat} (ok : qe_ok ev) (hE : qe_new ev E) (hlb : lb ≤ E) (R : qc_R a21 a22 a23 td ev lb)
    (H : ∀ a21' a22' a23', qc_R a21' a22' a23' td (qn_u ev (E % 16) E) lb → post (cu, ch, en, pe, td, rt, lk, a1, a2, a3, a4, a5, a6, a7, a8, a9, a10, a11, a12, a13, a14, a15, a16, a17, a18, a19, a20, a21', a22', a23', a24, a25, a26, a27)) : wpX_calendarAdd post (cu, ch, en, pe, td, rt, lk, a1, a2, a3, a4, a5, a6, a7, a8, a9, a10, a11, a12, a13, a14, a15, a16, a17, a18, a19, a20, a21, a22, a23, a24, a25, a26, a27) (nI E) := by
  obtain ⟨L, R⟩ := R
  have hday : E / 32 % 16 < 16 := Nat.mod_lt _ (by decide)
  obtain ⟨e0, e1, e2, e3⟩ := hE
  have hc : nI E - nI E / 16 * 16 = nI (E % 16) := qn_r16 (by omega)
  have hd : nI E / 32 - nI E / 32 / 16 * 16 = nI (E / 32 % 16) := by rw [qn_d32 (by omega)]; exact qn_r16 (by omega)
  refine And.intro qn_16 ?_
  rw [hc]
  refine ⟨qn_32, qn_16, nm_r hd ⟨pk_in (E % 16) 12 e1, nm_e ⟨pk_in (E / 32 % 16) 16 hday, nm_e ?_⟩⟩⟩
  rw [qn_cl (show E / 32 % 16 < 1048576 by omega), qn_cl (show E % 16 < 1048576 by omega)]
  exact ⟨_, qc_add31 (t := lb / 32) ok ⟨e0, e1, e2, e3⟩ (by omega) R rfl (fun a21' a22' L' R' => H a21' a22' _ ⟨L', R'⟩) (L (E / 32 % 16)) [] (-1) (a21 (E / 32 % 16)) rfl (Or.inl ⟨rfl, rfl⟩) rfl (R.1 _ hday) (fun b hb => absurd hb List.not_mem_nil)⟩
/-- who is next: the head of a day's list, its event the least -/
theorem qc_next57 {post : Int32 → Prop} {cu ch en pe td rt lk : Int32} {a1 a2 a3 a4 a5 a6 a7 a8 a9 a10 a11 a12 a13 a14 a15 a16 a17 a18 a19 a20 a21 a22 a23 a24 a25 a26 a27 : Nat → Int32} {t : Nat} {ev : Nat → Nat} {L : Nat → List Nat} (ok : qe_ok ev) (R : qc_Q a21 a22 a23 td ev L t) (hne : ∃ c, ev c ≠ 0)
    (H : ∀ c l, ev c ≠ 0 → qe_L ev (ev c) → L (ev c / 32 % 16) = c :: l → post (nI c)) : ∃ n, wX_calendarNext_57 post cu ch en pe td rt lk a1 a2 a3 a4 a5 a6 a7 a8 a9 a10 a11 a12 a13 a14 a15 a16 a17 a18 a19 a20 a21 a22 a23 a24 a25 a26 a27 n (-1) 0 := by
  obtain ⟨r1, r2, r3, r4, r5, r6⟩ := R
  have hb12 : ∀ d, d < 16 → ∀ c, c ∈ L d → c < 12 := fun d hd c hc => (ok c ((r2 d hd c).mp hc).1).1
  refine pk_loop (fun n i s => wX_calendarNext_57 post cu ch en pe td rt lk a1 a2 a3 a4 a5 a6 a7 a8 a9 a10 a11 a12 a13 a14 a15 a16 a17 a18 a19 a20 a21 a22 a23 a24 a25 a26 a27 n s (nI i)) (fun i s => (s = -1 ∧ ∀ d, d < i → L d = []) ∨ (∃ c l, s = nI c ∧ ev c ≠ 0 ∧ L (ev c / 32 % 16) = c :: l ∧ ∀ d, d < i → ∀ e, e ∈ L d → ev c ≤ ev e)) 16 0 (-1) (by omega) (Or.inl ⟨rfl, fun d hd => absurd hd (by omega)⟩) ?_ ?_
  · intro n s hI
    refine br_t (Int32.le_refl _) ?_
    rcases hI with ⟨_, h⟩ | ⟨c, l, hs, hn, hl, h⟩
    · obtain ⟨c, hc⟩ := hne
      have hd : ev c / 32 % 16 < 16 := Nat.mod_lt _ (by decide)
      have := (r2 _ hd c).mpr ⟨hc, rfl⟩
      rw [h _ hd] at this
      exact absurd this List.not_mem_nil
    · rw [hs]
      refine H c l hn ⟨hn, ⟨c, (ok c hn).1, rfl⟩, fun e he => ?_⟩ hl
      have hd : ev e / 32 % 16 < 16 := Nat.mod_lt _ (by decide)
      exact h _ hd e ((r2 _ hd e).mpr ⟨he, rfl⟩)
  · intro n i s hi hI hw
    refine br_f (nI_ge (b := 16) hi (by decide)) ⟨pk_in i 16 hi, nm_e ?_⟩
    rw [qn_cl (show i < 1048576 by omega)]
    rcases ql_hd (r1 i hi) (hb12 i hi) with ⟨hl, hx⟩ | ⟨c, l, hl, hx, hc, _⟩
    · rw [hx]
      refine br_t qn_m1 (nm_r (nI_1 i) (hw s ?_))
      rcases hI with ⟨h0, h⟩ | ⟨c, l, hs, hn, hl', h⟩
      · refine Or.inl ⟨h0, fun d hd => ?_⟩
        by_cases e : d = i
        · rw [e]; exact hl
        · exact h d (by omega)
      · refine Or.inr ⟨c, l, hs, hn, hl', fun d hd e he => ?_⟩
        by_cases ed : d = i
        · rw [ed, hl] at he; exact absurd he List.not_mem_nil
        · exact h d (by omega) e he
    · have hcm : c ∈ L i := by rw [hl]; exact List.mem_cons_self ..
      obtain ⟨hcn, hcd⟩ := (r2 i hi c).mp hcm
      have hmin : ∀ e, e ∈ L i → ev c ≤ ev e := by
        intro e he
        rw [hl] at he
        have hp := r3 i hi
        rw [hl] at hp
        rcases List.mem_cons.mp he with z | z
        · rw [z]; exact Nat.le_refl _
        · exact Nat.le_of_lt ((List.pairwise_cons.mp hp).1 e z)
      have hvc : a23 (nI c).toNatClampNeg = nI (ev c) := by rw [qn_cl (by omega)]; exact (r4 c hcn).1
      have hcb := (ok c hcn).2.2
      rw [hx]
      refine br_f (nI_pos (by omega)) ?_
      rcases hI with ⟨h0, h⟩ | ⟨b, m, hs, hn, hl', h⟩
      · rw [h0]
        refine br_t qn_m1 (nm_r (nI_1 i) (hw (nI c) (Or.inr ⟨c, l, rfl, hcn, by rw [hcd]; exact hl, fun d hd e he => ?_⟩)))
        by_cases ed : d = i
        · rw [ed] at he; exact hmin e he
        · rw [h d (by omega)] at he; exact absurd he List.not_mem_nil
      · obtain ⟨o1, o2, o3⟩ := ok b hn
        have hvb : a23 (nI b).toNatClampNeg = nI (ev b) := by rw [qn_cl (by omega)]; exact (r4 b hn).1
        rw [hs]
        refine br_f (nI_pos (by omega)) ⟨pk_in c 12 hc, pk_in b 12 o1, ?_⟩
        refine pk_le (ev b) (ev c) (fun z => nm_r (nI_1 i) (hw (nI b) (Or.inr ⟨b, m, rfl, hn, hl', fun d hd e he => ?_⟩))) (fun z => nm_r (nI_1 i) (hw (nI c) (Or.inr ⟨c, l, rfl, hcn, by rw [hcd]; exact hl, fun d hd e he => ?_⟩))) hvb hvc
        · by_cases ed : d = i
          · rw [ed] at he
            exact Nat.le_trans z (hmin e he)
          · exact h d (by omega) e he
        · by_cases ed : d = i
          · rw [ed] at he; exact hmin e he
          · have := h d (by omega) e he
            omega
theorem qc_next {post : Int32 → Prop} {cu ch en pe td rt lk : Int32} {a1 a2 a3 a4 a5 a6 a7 a8 a9 a10 a11 a12 a13 a14 a15 a16 a17 a18 a19 a20 a21 a22 a23 a24 a25 a26 a27 : Nat → Int32} {t : Nat} {ev : Nat → Nat} {L : Nat → List Nat} (ok : qe_ok ev) (R : qc_Q a21 a22 a23 td ev L t) (hne : ∃ c, ev c ≠ 0)
    (H : ∀ c l, ev c ≠ 0 → qe_L ev (ev c) → L (ev c / 32 % 16) = c :: l → post (nI c)) : wpX_calendarNext post (cu, ch, en, pe, td, rt, lk, a1, a2, a3, a4, a5, a6, a7, a8, a9, a10, a11, a12, a13, a14, a15, a16, a17, a18, a19, a20, a21, a22, a23, a24, a25, a26, a27) := by
  have R' := R
  obtain ⟨r1, r2, r3, r4, r5, r6⟩ := R'
  have hb12 : ∀ d, d < 16 → ∀ c, c ∈ L d → c < 12 := fun d hd c hc => (ok c ((r2 d hd c).mp hc).1).1
  subst r5
  refine pk_loop (σ := Unit) (fun n i _ => wX_calendarNext_2 post cu ch en pe (nI t) rt lk a1 a2 a3 a4 a5 a6 a7 a8 a9 a10 a11 a12 a13 a14 a15 a16 a17 a18 a19 a20 a21 a22 a23 a24 a25 a26 a27 n (nI i)) (fun i _ => ∀ c, ev c ≠ 0 → t + i ≤ ev c / 32) 16 0 () (by omega) (fun c hc => by have := (r4 c hc).2; omega) ?_ ?_
  · intro n _ hI
    exact br_t (Int32.le_refl _) (qc_next57 ok R hne H)
  · intro n i _ hi hI hw
    have hd : (t + i) % 16 < 16 := Nat.mod_lt _ (by decide)
    have hsum : nI t + nI i = nI (t + i) := nI_add t i
    have hrem : (nI t + nI i) - (nI t + nI i) / 16 * 16 = nI ((t + i) % 16) := by rw [hsum]; exact qn_r16 (by omega)
    refine br_f (nI_ge (b := 16) hi (by decide)) ⟨qn_16, pk_in ((t + i) % 16) 16 hd hrem, nm_e ?_⟩
    rw [hrem, qn_cl (show (t + i) % 16 < 1048576 by omega)]
    have hin : ∀ c, ev c ≠ 0 → ev c / 32 = t + i → c ∈ L ((t + i) % 16) := fun c hc he => (r2 _ hd c).mpr ⟨hc, by rw [he]⟩
    rcases ql_hd (r1 _ hd) (hb12 _ hd) with ⟨hl, hx⟩ | ⟨c, l, hl, hx, hc, _⟩
    · rw [hx]
      refine br_t qn_m1 (nm_r (nI_1 i) (hw () (fun c hc => ?_)))
      have h1 := hI c hc
      rcases Nat.lt_or_ge (t + i) (ev c / 32) with z | z
      · omega
      · have := hin c hc (by omega)
        rw [hl] at this
        exact absurd this List.not_mem_nil
    · have hcm : c ∈ L ((t + i) % 16) := by rw [hl]; exact List.mem_cons_self ..
      obtain ⟨hcn, hcd⟩ := (r2 _ hd c).mp hcm
      have hmin : ∀ e, e ∈ L ((t + i) % 16) → ev c ≤ ev e := by
        intro e he
        rw [hl] at he
        have hp := r3 _ hd
        rw [hl] at hp
        rcases List.mem_cons.mp he with z | z
        · rw [z]; exact Nat.le_refl _
        · exact Nat.le_of_lt ((List.pairwise_cons.mp hp).1 e z)
      have hvc : a23 (nI c).toNatClampNeg = nI (ev c) := by rw [qn_cl (by omega)]; exact (r4 c hcn).1
      have hcb := (ok c hcn).2.2
      rw [hx]
      refine br_f (nI_pos (by omega)) ⟨pk_in c 12 hc, qn_32, ?_⟩
      refine pk_eq (ev c / 32) (t + i) (fun z => ?_) (fun z => nm_r (nI_1 i) (hw () (fun e he => ?_))) (by rw [hvc]; exact qn_d32 (by omega)) hsum
      · refine H c l hcn ⟨hcn, ⟨c, hc, rfl⟩, fun e he => ?_⟩ (by rw [z]; exact hl)
        have h1 := hI e he
        rcases Nat.lt_or_ge (t + i) (ev e / 32) with y | y
        · omega
        · exact hmin e (hin e he (by omega))
      · have h1 := hI e he
        have h2 := hI c hcn
        rcases Nat.lt_or_ge (t + i) (ev e / 32) with y | y
        · omega
        · have := hmin e (hin e he (by omega))
          omega
theorem qc_take {post : Int32 → St1 → Prop} {cu ch en pe td rt lk : Int32} {a1 a2 a3 a4 a5 a6 a7 a8 a9 a10 a11 a12 a13 a14 a15 a16 a17 a18 a19 a20 a21 a22 a23 a24 a25 a26 a27 : Nat → Int32} {lb : Nat} {ev : Nat → Nat} (ok : qe_ok ev) (R : qc_R a21 a22 a23 td ev lb) (hne : ∃ c, ev c ≠ 0)
    (H : ∀ x td' a21', qe_L ev x → qc_R a21' a22 a23 td' (qn_u ev (x % 16) 0) x → post (nI x) (cu, ch, en, pe, td', rt, lk, a1, a2, a3, a4, a5, a6, a7, a8, a9, a10, a11, a12, a13, a14, a15, a16, a17, a18, a19, a20, a21', a22, a23, a24, a25, a26, a27)) : wpX_calendarTake post (cu, ch, en, pe, td, rt, lk, a1, a2, a3, a4, a5, a6, a7, a8, a9, a10, a11, a12, a13, a14, a15, a16, a17, a18, a19, a20, a21, a22, a23, a24, a25, a26, a27) := by
  obtain ⟨L, R⟩ := R
  refine qc_next ok R hne (fun c l hc hL hl => ?_)
  obtain ⟨r1, r2, r3, r4, r5, r6⟩ := R
  obtain ⟨o1, o2, o3⟩ := ok c hc
  have hd : ev c / 32 % 16 < 16 := Nat.mod_lt _ (by decide)
  have hvc : a23 (nI c).toNatClampNeg = nI (ev c) := by rw [qn_cl (by omega)]; exact (r4 c hc).1
  have hday : nI (ev c / 32) - nI (ev c / 32) / 16 * 16 = nI (ev c / 32 % 16) := qn_r16 (by omega)
  have hch := r1 _ hd
  rw [hl] at hch
  have hb12 : ∀ b, b ∈ l → b < 12 := fun b hb => (ok b ((r2 _ hd b).mp (by rw [hl]; exact List.mem_cons_of_mem c hb)).1).1
  have hp := r3 _ hd
  rw [hl] at hp
  have hcl : c ∉ l := fun z => absurd ((List.pairwise_cons.mp hp).1 c z) (by omega)
  refine ⟨pk_in c 12 o1, qn_32, nm_r (show a23 (nI c).toNatClampNeg / 32 = nI (ev c / 32) by rw [hvc]; exact qn_d32 (by omega)) ⟨qn_16, pk_in c 12 o1, pk_in (ev c / 32 % 16) 16 hd hday, nm_e ⟨pk_in c 12 o1, ?_⟩⟩⟩
  rw [hvc, hday, qn_cl (show ev c / 32 % 16 < 1048576 by omega), qn_cl (show c < 1048576 by omega), (ql_by hch.2 hb12).2]
  refine H (ev c) _ _ hL ⟨qn_u L (ev c / 32 % 16) l, fun d hdd => ?_, fun d hdd b => ?_, fun d hdd => ?_, fun b hb => ?_, rfl, by omega⟩
  · rcases qn_c L (ev c / 32 % 16) l d with ⟨x, ex⟩ | ⟨x, ex⟩ <;> rw [ex]
    · rw [x, pk_us]; exact hch.2
    · rw [pk_un x]; exact r1 d hdd
  · rw [o2]
    rcases qn_c L (ev c / 32 % 16) l d with ⟨x, ex⟩ | ⟨x, ex⟩ <;> rw [ex] <;> rcases qn_c ev c 0 b with ⟨y, ey⟩ | ⟨y, ey⟩ <;> rw [ey]
    · exact ⟨fun z => absurd (by rw [← y]; exact z) hcl, fun z => absurd rfl z.1⟩
    · have := r2 d hdd b
      rw [x, hl, List.mem_cons] at this
      rw [x, ← this]
      exact ⟨Or.inr, fun z => z.resolve_left y⟩
    · refine ⟨fun z => ?_, fun z => absurd rfl z.1⟩
      have := ((r2 d hdd b).mp z).2
      rw [y] at this
      omega
    · exact r2 d hdd b
  · rw [o2]
    rcases qn_c L (ev c / 32 % 16) l d with ⟨x, ex⟩ | ⟨x, ex⟩ <;> rw [ex]
    · refine List.Pairwise.imp_of_mem (fun {a b} ha hb h => ?_) (List.pairwise_cons.mp hp).2
      rw [qn_un (fun z => hcl (by rw [← z]; exact ha)), qn_un (fun z => hcl (by rw [← z]; exact hb))]; exact h
    · have hcd : c ∉ L d := fun z => by
        have := ((r2 d hdd c).mp z).2
        omega
      refine List.Pairwise.imp_of_mem (fun {a b} ha hb h => ?_) (r3 d hdd)
      rw [qn_un (fun z => hcd (by rw [← z]; exact ha)), qn_un (fun z => hcd (by rw [← z]; exact hb))]; exact h
  · rw [o2] at hb ⊢
    rcases qn_c ev c 0 b with ⟨y, ey⟩ | ⟨y, ey⟩ <;> rw [ey] at hb ⊢
    · exact absurd rfl hb
    · refine ⟨(r4 b hb).1, ?_⟩
      have := hL.2.2 b hb
      omega
end
section
/-- engine 3: e differs from x by bits below b, b least -/
def qb_at (x e b : Nat) : Prop := e / 2 ^ b = x / 2 ^ b ∧ (b = 0 ∨ e / 2 ^ (b - 1) ≠ x / 2 ^ (b - 1))
theorem qb_mono {x e a b : Nat} (h : a ≤ b) (he : e / 2 ^ a = x / 2 ^ a) : e / 2 ^ b = x / 2 ^ b := by
  have hp : 2 ^ b = 2 ^ a * 2 ^ (b - a) := by rw [← Nat.pow_add]; congr 1; omega
  rw [hp, ← Nat.div_div_eq_div_mul, ← Nat.div_div_eq_div_mul, he]
theorem qb_uni {x e a b : Nat} (ha : qb_at x e a) (hb : qb_at x e b) : a = b := by
  have half : ∀ {a b : Nat}, qb_at x e a → qb_at x e b → ¬ a < b := by
    intro a b ha hb h
    rcases hb.2 with z | z
    · omega
    · exact z (qb_mono (show a ≤ b - 1 by omega) ha.1)
  have h1 := half ha hb
  have h2 := half hb ha
  omega
theorem qb_ex {x e : Nat} (hx : x < 1048576) (he : e < 1048576) : ∃ b, b ≤ 20 ∧ qb_at x e b := by
  have h20 : e / 2 ^ 20 = x / 2 ^ 20 := by rw [Nat.div_eq_of_lt (show e < 2 ^ 20 from he), Nat.div_eq_of_lt (show x < 2 ^ 20 from hx)]
  obtain ⟨b, hb, hl⟩ := pk_least (fun b => e / 2 ^ b = x / 2 ^ b) ⟨20, h20⟩
  refine ⟨b, ?_, hb, ?_⟩
  · rcases Nat.lt_or_ge 20 b with z | z
    · exact absurd h20 (hl 20 z)
    · exact z
  · rcases Nat.eq_zero_or_pos b with z | z
    · exact Or.inl z
    · exact Or.inr (hl (b - 1) (by omega))
theorem qb_ord {x e f a b : Nat} (he : x ≤ e) (hf : x ≤ f) (ha : qb_at x e a) (hb : qb_at x f b) (h : a < b) : e < f := by
  have h1 : e / 2 ^ (b - 1) = x / 2 ^ (b - 1) := qb_mono (by omega) ha.1
  have h2 : f / 2 ^ (b - 1) ≠ x / 2 ^ (b - 1) := hb.2.resolve_left (by omega)
  have h3 : x / 2 ^ (b - 1) ≤ f / 2 ^ (b - 1) := Nat.div_le_div_right hf
  rcases Nat.lt_or_ge e f with z | z
  · exact z
  · have h4 : f / 2 ^ (b - 1) ≤ e / 2 ^ (b - 1) := Nat.div_le_div_right z
    omega
theorem qb_mv {x y e a b : Nat} (hy : qb_at x y a) (he : qb_at x e b) (h : a < b) : qb_at y e b := by
  refine ⟨?_, ?_⟩
  · rw [he.1, qb_mono (Nat.le_of_lt h) hy.1]
  · refine Or.inr (fun z => ?_)
    have h1 := he.2.resolve_left (by omega)
    rw [z] at h1
    exact h1 (qb_mono (by omega) hy.1)
theorem qb_x0 {a b : Nat} (h : a ^^^ b = 0) : a = b := by
  have : (a ^^^ b) ^^^ b = a := by rw [Nat.xor_assoc, Nat.xor_self, Nat.xor_zero]
  rw [h, Nat.zero_xor] at this
  exact this.symm
theorem qb_xor (a b : Nat) : nI a ^^^ nI b = nI (a ^^^ b) := by
  apply Int32.toBitVec_inj.1
  show BitVec.ofNat 32 a ^^^ BitVec.ofNat 32 b = BitVec.ofNat 32 (a ^^^ b)
  apply BitVec.eq_of_getLsbD_eq
  intro i hi
  simp [hi]
theorem qb_for9 {post : Int32 → Prop} {cu ch en pe td rt lk : Int32} {a1 a2 a3 a4 a5 a6 a7 a8 a9 a10 a11 a12 a13 a14 a15 a16 a17 a18 a19 a20 a21 a22 a23 a24 a25 a26 a27 : Nat → Int32} {x E : Nat} (hX : E ^^^ x < 1048576) (H : ∀ b, b ≤ 20 → qb_at x E b → post (nI b)) :
    ∀ (n j X : Nat), X = (E ^^^ x) / 2 ^ j → j ≤ 20 → 20 - j < n → (j = 0 ∨ (E ^^^ x) / 2 ^ (j - 1) ≠ 0) → wX_bucketFor_9 post cu ch en pe td rt lk a1 a2 a3 a4 a5 a6 a7 a8 a9 a10 a11 a12 a13 a14 a15 a16 a17 a18 a19 a20 a21 a22 a23 a24 a25 a26 a27 n (nI X) (nI j) := by
  intro n
  induction n with
  | zero => intro j X _ _ hn; omega
  | succ n ih =>
    intro j X hX' hj hn hz
    subst hX'
    have hle : (E ^^^ x) / 2 ^ j ≤ E ^^^ x := Nat.div_le_self _ _
    refine pk_eq ((E ^^^ x) / 2 ^ j) 0 (fun z => H j hj ⟨?_, ?_⟩) (fun z => ?_)
    · rw [Nat.xor_div_two_pow] at z
      exact qb_x0 z
    · rcases hz with y | y
      · exact Or.inl y
      · refine Or.inr (fun w => y ?_)
        rw [Nat.xor_div_two_pow, w, Nat.xor_self]
    · have hj20 : j < 20 := by
        rcases Nat.lt_or_ge j 20 with y | y
        · exact y
        · exfalso
          apply z
          rw [show j = 20 by omega]
          exact Nat.div_eq_of_lt hX
      have hs : nI ((E ^^^ x) / 2 ^ j) >>> ((1 : Int32) &&& 31) = nI ((E ^^^ x) / 2 ^ (j + 1)) := by
        rw [pk_shrN (by omega) _ 1 (by decide), Nat.div_div_eq_div_mul, ← Nat.pow_add]
      refine nm_r hs (nm_r (nI_1 j) (ih (j + 1) _ rfl (by omega) (by omega) (Or.inr ?_)))
      exact z
theorem qb_raw {post : St1 → Prop} {cu ch en pe td rt lk : Int32} {a1 a2 a3 a4 a5 a6 a7 a8 a9 a10 a11 a12 a13 a14 a15 a16 a17 a18 a19 a20 a21 a22 a23 a24 a25 a26 a27 : Nat → Int32} {x E : Nat} (hlk : lk = nI x) (hx : x < 1048576) (hE : E < 1048576) (hc : E % 16 < 12)
    (H : ∀ b, b ≤ 20 → qb_at x E b → post (cu, ch, en, pe, td, rt, lk, a1, a2, a3, a4, a5, a6, a7, a8, a9, a10, a11, a12, a13, a14, a15, a16, a17, a18, a19, a20, a21, upd a22 (E % 16) (vp_nar .byte (a27 b)), upd a23 (E % 16) (nI E), a24, a25, a26, upd a27 b (nI (E % 16)))) : wpX_bucketAdd post (cu, ch, en, pe, td, rt, lk, a1, a2, a3, a4, a5, a6, a7, a8, a9, a10, a11, a12, a13, a14, a15, a16, a17, a18, a19, a20, a21, a22, a23, a24, a25, a26, a27) (nI E) := by
  have hr : nI E - nI E / 16 * 16 = nI (E % 16) := qn_r16 (by omega)
  refine And.intro qn_16 ?_
  rw [hr]
  subst hlk
  refine nm_r (qb_xor E x) (Exists.intro 21 ?_)
  have hX : E ^^^ x < 1048576 := Nat.xor_lt_two_pow (n := 20) hE hx
  refine qb_for9 hX (fun b hb hat => ?_) 21 0 _ (by rw [Nat.pow_zero, Nat.div_one]) (by omega) (by omega) (Or.inl rfl)
  refine ⟨pk_in (E % 16) 12 hc, nm_e ⟨pk_in b 24 (by omega), pk_in (E % 16) 12 hc, nm_e ⟨pk_in b 24 (by omega), nm_e ?_⟩⟩⟩
  rw [qn_cl (show E % 16 < 1048576 by omega), qn_cl (show b < 1048576 by omega), qn_b _ (by omega)]
  exact H b hb hat
def qb_Q (a22 a27 : Nat → Int32) (ev : Nat → Nat) (L : Nat → List Nat) (x : Nat) (M : Nat → Prop) : Prop := ∀ b, b < 24 → ql_s a22 (L b) (a27 b) (-1) ∧ (L b).Nodup ∧ ∀ c, c ∈ L b ↔ M c ∧ qb_at x (ev c) b
theorem qb_ins {a22 a27 : Nat → Int32} {ev : Nat → Nat} {L : Nat → List Nat} {x c b : Nat} {M : Nat → Prop} (Q : qb_Q a22 a27 ev L x M) (hM : ∀ d, M d → d < 12) (hc : ¬ M c) (hb : b < 24) (hat : qb_at x (ev c) b) :
    qb_Q (upd a22 c (vp_nar .byte (a27 b))) (upd a27 b (nI c)) ev (qn_u L b (c :: L b)) x (fun d => M d ∨ d = c) := by
  have hcn : ∀ d, d < 24 → c ∉ L d := fun d hd hm => hc (((Q d hd).2.2 c).mp hm).1
  intro d hd
  obtain ⟨q1, q2, q3⟩ := Q d hd
  have hfr : ql_s (upd a22 c (vp_nar .byte (a27 b))) (L d) (a27 d) (-1) := ql_fr (fun e he => pk_un (fun z => hcn d hd (by rw [← z]; exact he))) q1
  rcases qn_c L b (c :: L b) d with ⟨y, ey⟩ | ⟨y, ey⟩ <;> rw [ey]
  · rw [y] at hfr q1 q2 q3
    have hv : vp_nar .byte (a27 b) = a27 b := (ql_by q1 (fun e he => hM e ((q3 e).mp he).1)).2
    rw [y, pk_us]
    refine ⟨⟨rfl, ?_⟩, List.nodup_cons.mpr ⟨hcn b hb, q2⟩, fun e => ?_⟩
    · rw [pk_us, hv]
      rw [hv] at hfr
      exact hfr
    · rw [List.mem_cons, q3 e]
      constructor
      · rintro (z | z)
        · exact ⟨Or.inr z, by rw [z]; exact hat⟩
        · exact ⟨Or.inl z.1, z.2⟩
      · rintro ⟨z | z, w⟩
        · exact Or.inr ⟨z, w⟩
        · exact Or.inl z
  · rw [pk_un y]
    refine ⟨hfr, q2, fun e => ?_⟩
    rw [q3 e]
    constructor
    · rintro ⟨z, w⟩
      exact ⟨Or.inl z, w⟩
    · rintro ⟨z | z, w⟩
      · exact ⟨z, w⟩
      · rw [z] at w
        exact absurd (qb_uni w hat) y
theorem qb_cg {a22 a27 : Nat → Int32} {ev ev' : Nat → Nat} {L : Nat → List Nat} {x : Nat} {M M' : Nat → Prop} (Q : qb_Q a22 a27 ev L x M) (hM : ∀ d, M' d ↔ M d) (he : ∀ d, M d → ev' d = ev d) : qb_Q a22 a27 ev' L x M' := by
  intro d hd
  obtain ⟨q1, q2, q3⟩ := Q d hd
  refine ⟨q1, q2, fun c => ?_⟩
  rw [q3 c, hM c]
  constructor
  · rintro ⟨z, w⟩
    exact ⟨z, by rw [he c z]; exact w⟩
  · rintro ⟨z, w⟩
    exact ⟨z, by rw [← he c z]; exact w⟩
def qb_R (a22 a23 a27 : Nat → Int32) (lk : Int32) (ev : Nat → Nat) (lb : Nat) : Prop := ∃ L, qb_Q a22 a27 ev L lb (fun c => ev c ≠ 0) ∧ lk = nI lb ∧ lb < 1048576 ∧ ∀ c, ev c ≠ 0 → a23 c = nI (ev c) ∧ lb ≤ ev c
theorem qb_add {post : St1 → Prop} {cu ch en pe td rt lk : Int32} {a1 a2 a3 a4 a5 a6 a7 a8 a9 a10 a11 a12 a13 a14 a15 a16 a17 a18 a19 a20 a21 a22 a23 a24 a25 a26 a27 : Nat → Int32} {E lb : Nat} {ev : Nat → Nat} (ok : qe_ok ev) (hE : qe_new ev E) (hlb : lb ≤ E) (R : qb_R a22 a23 a27 lk ev lb)
    (H : ∀ a22' a23' a27', qb_R a22' a23' a27' lk (qn_u ev (E % 16) E) lb → post (cu, ch, en, pe, td, rt, lk, a1, a2, a3, a4, a5, a6, a7, a8, a9, a10, a11, a12, a13, a14, a15, a16, a17, a18, a19, a20, a21, a22', a23', a24, a25, a26, a27')) : wpX_bucketAdd post (cu, ch, en, pe, td, rt, lk, a1, a2, a3, a4, a5, a6, a7, a8, a9, a10, a11, a12, a13, a14, a15, a16, a17, a18, a19, a20, a21, a22, a23, a24, a25, a26, a27) (nI E) := by
  obtain ⟨L, Q, h1, h2, h3⟩ := R
  obtain ⟨e0, e1, e2, e3⟩ := hE
  refine qb_raw h1 h2 e2 e1 (fun b hb hat => H _ _ _ ⟨qn_u L b (E % 16 :: L b), ?_, h1, h2, fun c hn => ?_⟩)
  · have Q' : qb_Q a22 a27 (qn_u ev (E % 16) E) L lb (fun c => ev c ≠ 0) := qb_cg Q (fun d => Iff.rfl) (fun d hd => qn_un (fun z => hd (by rw [z]; exact e3)))
    refine qb_cg (qb_ins (c := E % 16) (b := b) Q' (fun d hd => (ok d hd).1) (fun z => z e3) (by omega) (by rw [qn_us]; exact hat)) (fun d => ?_) (fun d _ => rfl)
    rcases qn_c ev (E % 16) E d with ⟨y, ey⟩ | ⟨y, ey⟩ <;> rw [ey]
    · exact ⟨fun _ => Or.inr y, fun _ => e0⟩
    · exact ⟨Or.inl, fun z => z.resolve_right y⟩
  · rcases qn_c ev (E % 16) E c with ⟨y, ey⟩ | ⟨y, ey⟩ <;> rw [ey] at hn ⊢
    · rw [y, pk_us]; exact ⟨rfl, hlb⟩
    · rw [pk_un y]; exact h3 c hn
theorem qb_first {post : Int32 → Prop} {cu ch en pe td rt lk : Int32} {a1 a2 a3 a4 a5 a6 a7 a8 a9 a10 a11 a12 a13 a14 a15 a16 a17 a18 a19 a20 a21 a22 a23 a24 a25 a26 a27 : Nat → Int32} {lb : Nat} {ev : Nat → Nat} {L : Nat → List Nat} (ok : qe_ok ev) (Q : qb_Q a22 a27 ev L lb (fun c => ev c ≠ 0)) (hlb : lb < 1048576) (hne : ∃ c, ev c ≠ 0)
    (H : ∀ b, b ≤ 20 → L b ≠ [] → (∀ d, d < b → L d = []) → post (nI b)) : wpX_firstBucket post (cu, ch, en, pe, td, rt, lk, a1, a2, a3, a4, a5, a6, a7, a8, a9, a10, a11, a12, a13, a14, a15, a16, a17, a18, a19, a20, a21, a22, a23, a24, a25, a26, a27) := by
  have hex : ∃ b, b ≤ 20 ∧ L b ≠ [] := by
    obtain ⟨c, hc⟩ := hne
    obtain ⟨b, hb, hat⟩ := qb_ex hlb (ok c hc).2.2
    refine ⟨b, hb, fun z => ?_⟩
    have := ((Q b (by omega)).2.2 c).mpr ⟨hc, hat⟩
    rw [z] at this
    exact absurd this List.not_mem_nil
  obtain ⟨b, ⟨hb, hl⟩, hmin⟩ := pk_least (fun b => b ≤ 20 ∧ L b ≠ []) hex
  have hlow : ∀ d, d < b → L d = [] := by
    intro d hd
    rcases Classical.em (L d = []) with z | z
    · exact z
    · exact absurd ⟨by omega, z⟩ (hmin d hd)
  refine pk_loop (σ := Unit) (fun n i _ => wX_firstBucket_2 post cu ch en pe td rt lk a1 a2 a3 a4 a5 a6 a7 a8 a9 a10 a11 a12 a13 a14 a15 a16 a17 a18 a19 a20 a21 a22 a23 a24 a25 a26 a27 n (nI i)) (fun _ _ => True) b 0 () (by omega) trivial ?_ ?_
  · intro n _ _
    refine br_f (nI_ge (b := 23) (by omega) (by decide)) ⟨pk_in b 24 (by omega), ?_⟩
    rw [qn_cl (show b < 1048576 by omega)]
    rcases ql_hd (Q b (by omega)).1 (fun c hc => (ok c (((Q b (by omega)).2.2 c).mp hc).1).1) with ⟨z, _⟩ | ⟨c, m, _, hx, hc, _⟩
    · exact absurd z hl
    · refine br_t (by rw [hx]; exact nI_pos' (by omega)) (H b hb hl hlow)
  · intro n i _ hi _ hw
    refine br_f (nI_ge (b := 23) (by omega) (by decide)) ⟨pk_in i 24 (by omega), ?_⟩
    rw [qn_cl (show i < 1048576 by omega)]
    have := (Q i (by omega)).1
    rw [hlow i hi] at this
    have hx : a27 i = -1 := this
    rw [hx]
    exact br_f qn_m1' (nm_r (nI_1 i) (hw () trivial))
theorem qb_least14 {post : Int32 → Prop} {cu ch en pe td rt lk : Int32} {a1 a2 a3 a4 a5 a6 a7 a8 a9 a10 a11 a12 a13 a14 a15 a16 a17 a18 a19 a20 a21 a22 a23 a24 a25 a26 a27 : Nat → Int32} {ev : Nat → Nat} (ok : qe_ok ev) (ha : ∀ c, ev c ≠ 0 → a23 c = nI (ev c)) :
    ∀ (l : List Nat) (b : Nat) (x3 : Int32), ql_s a22 l x3 (-1) → (∀ c, c ∈ l → ev c ≠ 0) → ev b ≠ 0 → (∀ c, (c = b ∨ c ∈ l) → ev c ≤ ev b → (∀ d, d ∈ l → ev c ≤ ev d) → post (nI c)) → wX_leastOf_14 post cu ch en pe td rt lk a1 a2 a3 a4 a5 a6 a7 a8 a9 a10 a11 a12 a13 a14 a15 a16 a17 a18 a19 a20 a21 a22 a23 a24 a25 a26 a27 (l.length + 1) (nI b) x3 := by
  intro l
  induction l with
  | nil =>
    intro b x3 hs hl hb H
    have hx : x3 = -1 := hs
    exact br_t (by rw [hx]; exact qn_m1) (H b (Or.inl rfl) (Nat.le_refl _) (fun d hd => absurd hd List.not_mem_nil))
  | cons c l ih =>
    intro b x3 hs hl hb H
    obtain ⟨hx, hs⟩ := hs
    have hc := hl c (List.mem_cons_self ..)
    obtain ⟨o1, o2, o3⟩ := ok c hc
    obtain ⟨p1, p2, p3⟩ := ok b hb
    have vc : a23 (nI c).toNatClampNeg = nI (ev c) := by rw [qn_cl (by omega)]; exact ha c hc
    have vb : a23 (nI b).toNatClampNeg = nI (ev b) := by rw [qn_cl (by omega)]; exact ha b hb
    have hnx : a22 (nI c).toNatClampNeg = a22 c := by rw [qn_cl (by omega)]
    rw [hx]
    refine br_f (nI_pos (by omega)) ⟨pk_in c 12 o1, pk_in b 12 p1, ?_⟩
    refine pk_le (ev b) (ev c) (fun z => ⟨pk_in c 12 o1, nm_r hnx ?_⟩) (fun z => ⟨pk_in c 12 o1, nm_r hnx ?_⟩) vb vc
    · refine ih b _ hs (fun d hd => hl d (List.mem_cons_of_mem c hd)) hb (fun d hd h1 h2 => H d ?_ h1 (fun e he => ?_))
      · rcases hd with w | w
        · exact Or.inl w
        · exact Or.inr (List.mem_cons_of_mem c w)
      · rcases List.mem_cons.mp he with w | w
        · rw [w]; omega
        · exact h2 e w
    · refine ih c _ hs (fun d hd => hl d (List.mem_cons_of_mem c hd)) hc (fun d hd h1 h2 => H d (Or.inr ?_) (by omega) (fun e he => ?_))
      · rcases hd with w | w
        · rw [w]; exact List.mem_cons_self ..
        · exact List.mem_cons_of_mem c w
      · rcases List.mem_cons.mp he with w | w
        · rw [w]; exact h1
        · exact h2 e w
theorem qb_least {post : Int32 → Prop} {cu ch en pe td rt lk : Int32} {a1 a2 a3 a4 a5 a6 a7 a8 a9 a10 a11 a12 a13 a14 a15 a16 a17 a18 a19 a20 a21 a22 a23 a24 a25 a26 a27 : Nat → Int32} {lb b : Nat} {ev : Nat → Nat} {L : Nat → List Nat} (ok : qe_ok ev) (Q : qb_Q a22 a27 ev L lb (fun c => ev c ≠ 0)) (hlb : lb < 1048576) (ha : ∀ c, ev c ≠ 0 → a23 c = nI (ev c) ∧ lb ≤ ev c)
    (hb : b ≤ 20) (hl : L b ≠ []) (hlow : ∀ d, d < b → L d = []) (H : ∀ c, c ∈ L b → ev c ≠ 0 → qe_L ev (ev c) → post (nI c)) : wpX_leastOf post (cu, ch, en, pe, td, rt, lk, a1, a2, a3, a4, a5, a6, a7, a8, a9, a10, a11, a12, a13, a14, a15, a16, a17, a18, a19, a20, a21, a22, a23, a24, a25, a26, a27) (nI b) := by
  obtain ⟨q1, q2, q3⟩ := Q b (by omega)
  have hm : ∀ c, c ∈ L b → ev c ≠ 0 := fun c hc => ((q3 c).mp hc).1
  have hcl : a27 (nI b).toNatClampNeg = a27 b := by rw [qn_cl (by omega)]
  refine And.intro (pk_in b 24 (by omega)) (nm_r hcl ⟨pk_in b 24 (by omega), nm_r hcl ?_⟩)
  rcases ql_hd q1 (fun c hc => (ok c (hm c hc)).1) with ⟨z, _⟩ | ⟨c, m, hcm, hx, hc, _⟩
  · exact absurd z hl
  · rw [hx]
    rw [hx] at q1
    refine ⟨_, qb_least14 ok (fun c hc => (ha c hc).1) (L b) c (nI c) q1 hm (hm c (by rw [hcm]; exact List.mem_cons_self ..)) (fun d hd h1 h2 => ?_)⟩
    have hdm : d ∈ L b := by
      rcases hd with w | w
      · rw [w, hcm]; exact List.mem_cons_self ..
      · exact w
    refine H d hdm (hm d hdm) ⟨hm d hdm, ⟨d, (ok d (hm d hdm)).1, rfl⟩, fun e he => ?_⟩
    obtain ⟨b', hb', hat⟩ := qb_ex hlb (ok e he).2.2
    have hin := ((Q b' (by omega)).2.2 e).mpr ⟨he, hat⟩
    rcases Nat.lt_trichotomy b' b with w | w | w
    · rw [hlow b' w] at hin; exact absurd hin List.not_mem_nil
    · rw [w] at hin; exact h2 e hin
    · exact Nat.le_of_lt (qb_ord (ha d (hm d hdm)).2 (ha e he).2 ((q3 d).mp hdm).2 hat w)
theorem qb_take35 {post : Int32 → St1 → Prop} {cu ch en pe td rt : Int32} {a1 a2 a3 a4 a5 a6 a7 a8 a9 a10 a11 a12 a13 a14 a15 a16 a17 a18 a19 a20 a21 a24 a25 a26 : Nat → Int32} {y best : Nat} {ev : Nat → Nat} (ok : qe_ok ev) (hy : y < 1048576) (hbest : best < 12)
    (H : ∀ a22 a23 a27 L, qb_Q a22 a27 ev L y (fun c => ev c ≠ 0 ∧ c ≠ best) → (∀ c, ev c ≠ 0 → a23 c = nI (ev c)) → post (nI y) (cu, ch, en, pe, td, rt, nI y, a1, a2, a3, a4, a5, a6, a7, a8, a9, a10, a11, a12, a13, a14, a15, a16, a17, a18, a19, a20, a21, a22, a23, a24, a25, a26, a27)) :
    ∀ (l : List Nat) (x3 : Int32) (a22 a23 a27 : Nat → Int32) (L : Nat → List Nat) (M : Nat → Prop), ql_s a22 l x3 (-1) → l.Nodup → (∀ c, c ∈ l → ev c ≠ 0 ∧ ¬ M c) → qb_Q a22 a27 ev L y M → (∀ c, ev c ≠ 0 → a23 c = nI (ev c)) → (∀ c, (M c ∨ (c ∈ l ∧ c ≠ best)) ↔ (ev c ≠ 0 ∧ c ≠ best)) → wX_bucketTake_35 post (nI best) (l.length + 1) x3 cu ch en pe td rt (nI y) a1 a2 a3 a4 a5 a6 a7 a8 a9 a10 a11 a12 a13 a14 a15 a16 a17 a18 a19 a20 a21 a22 a23 a24 a25 a26 a27 := by
  intro l
  induction l with
  | nil =>
    intro x3 a22 a23 a27 L M hs _ _ Q ha hM
    have hx : x3 = -1 := hs
    refine br_t (by rw [hx]; exact qn_m1) (H a22 a23 a27 L (qb_cg Q (fun d => ?_) (fun d _ => rfl)) ha)
    rw [← hM d]
    exact ⟨fun z => z.resolve_right (fun w => List.not_mem_nil w.1), Or.inl⟩
  | cons c l ih =>
    intro x3 a22 a23 a27 L M hs hnd hl Q ha hM
    obtain ⟨hx, hs⟩ := hs
    obtain ⟨hc, hcM⟩ := hl c (List.mem_cons_self ..)
    obtain ⟨o1, o2, o3⟩ := ok c hc
    obtain ⟨nd1, nd2⟩ := List.nodup_cons.mp hnd
    have hcl : (nI c).toNatClampNeg = c := qn_cl (by omega)
    have hM12 : ∀ d, M d → d < 12 := fun d hd => (ok d ((hM d).mp (Or.inl hd)).1).1
    rw [hx]
    refine br_f (nI_pos (by omega)) ⟨pk_in c 12 o1, nm_e ?_⟩
    rw [hcl]
    refine pk_eq c best (fun z => ?_) (fun z => ⟨pk_in c 12 o1, ?_⟩)
    · refine ih (a22 c) a22 a23 a27 L M hs nd2 (fun d hd => hl d (List.mem_cons_of_mem c hd)) Q ha (fun d => ?_)
      rw [← hM d]
      constructor
      · rintro (w | w)
        · exact Or.inl w
        · exact Or.inr ⟨List.mem_cons_of_mem c w.1, w.2⟩
      · rintro (w | w)
        · exact Or.inl w
        · rcases List.mem_cons.mp w.1 with v | v
          · exact absurd (by rw [v, z]) w.2
          · exact Or.inr ⟨v, w.2⟩
    · rw [ha c hc]
      refine qb_raw (x := y) rfl hy o3 (by omega) (fun b hb hat => ?_)
      rw [o2]
      refine ih (a22 c) _ _ _ (qn_u L b (c :: L b)) (fun d => M d ∨ d = c) ?_ nd2 (fun d hd => ⟨(hl d (List.mem_cons_of_mem c hd)).1, ?_⟩) (qb_ins Q hM12 hcM (by omega) hat) (fun d hd => ?_) (fun d => ?_)
      · exact ql_fr (fun d hd => pk_un (fun w => nd1 (by rw [← w]; exact hd))) hs
      · rintro (w | w)
        · exact (hl d (List.mem_cons_of_mem c hd)).2 w
        · exact nd1 (by rw [← w]; exact hd)
      · by_cases w : d = c
        · rw [w, pk_us]
        · rw [pk_un w]; exact ha d hd
      · rw [← hM d]
        constructor
        · rintro ((w | w) | w)
          · exact Or.inl w
          · exact Or.inr ⟨by rw [w]; exact List.mem_cons_self .., by rw [w]; exact z⟩
          · exact Or.inr ⟨List.mem_cons_of_mem c w.1, w.2⟩
        · rintro (w | w)
          · exact Or.inl (Or.inl w)
          · rcases List.mem_cons.mp w.1 with v | v
            · exact Or.inl (Or.inr v)
            · exact Or.inr ⟨v, w.2⟩
theorem qb_take {post : Int32 → St1 → Prop} {cu ch en pe td rt lk : Int32} {a1 a2 a3 a4 a5 a6 a7 a8 a9 a10 a11 a12 a13 a14 a15 a16 a17 a18 a19 a20 a21 a22 a23 a24 a25 a26 a27 : Nat → Int32} {lb : Nat} {ev : Nat → Nat} (ok : qe_ok ev) (R : qb_R a22 a23 a27 lk ev lb) (hne : ∃ c, ev c ≠ 0)
    (H : ∀ x lk' a22' a23' a27', qe_L ev x → qb_R a22' a23' a27' lk' (qn_u ev (x % 16) 0) x → post (nI x) (cu, ch, en, pe, td, rt, lk', a1, a2, a3, a4, a5, a6, a7, a8, a9, a10, a11, a12, a13, a14, a15, a16, a17, a18, a19, a20, a21, a22', a23', a24, a25, a26, a27')) : wpX_bucketTake post (cu, ch, en, pe, td, rt, lk, a1, a2, a3, a4, a5, a6, a7, a8, a9, a10, a11, a12, a13, a14, a15, a16, a17, a18, a19, a20, a21, a22, a23, a24, a25, a26, a27) := by
  obtain ⟨L, Q, h1, h2, h3⟩ := R
  refine qb_first ok Q h2 hne (fun b hb hl hlow => ?_)
  refine qb_least ok Q h2 h3 hb hl hlow (fun c hc hcn hL => ?_)
  obtain ⟨o1, o2, o3⟩ := ok c hcn
  obtain ⟨q1, q2, q3⟩ := Q b (by omega)
  have hcl : (nI c).toNatClampNeg = c := qn_cl (by omega)
  have hbl : (nI b).toNatClampNeg = b := qn_cl (by omega)
  have hat := ((q3 c).mp hc).2
  refine ⟨pk_in c 12 o1, nm_r (show a23 (nI c).toNatClampNeg = nI (ev c) by rw [hcl]; exact (h3 c hcn).1) ⟨pk_in b 24 (by omega), nm_e ⟨pk_in b 24 (by omega), nm_e ⟨(L b).length + 1, ?_⟩⟩⟩⟩
  rw [hbl]
  have hbk : ∀ d, ev d ≠ 0 → d ∉ L b → ∃ b', b < b' ∧ b' < 24 ∧ d ∈ L b' ∧ qb_at (ev c) (ev d) b' := by
    intro d hd hn
    obtain ⟨b', hb', hat'⟩ := qb_ex h2 (ok d hd).2.2
    have hin := ((Q b' (by omega)).2.2 d).mpr ⟨hd, hat'⟩
    rcases Nat.lt_trichotomy b' b with w | w | w
    · rw [hlow b' w] at hin; exact absurd hin List.not_mem_nil
    · rw [w] at hin; exact absurd hin hn
    · exact ⟨b', w, by omega, hin, qb_mv hat hat' w⟩
  refine qb_take35 (ev := ev) ok o3 o1 (fun a22' a23' a27' L' Q' ha' => H (ev c) _ _ _ _ hL ⟨L', ?_, rfl, o3, fun d hd => ?_⟩) (L b) (a27 b) a22 a23 _ (qn_u L b []) (fun d => ev d ≠ 0 ∧ d ∉ L b) q1 q2 (fun d hd => ⟨((q3 d).mp hd).1, fun z => z.2 hd⟩) ?_ (fun d hd => (h3 d hd).1) (fun d => ?_)
  · rw [o2]
    refine qb_cg Q' (fun d => ?_) (fun d hd => qn_un hd.2)
    rcases qn_c ev c 0 d with ⟨w, ew⟩ | ⟨w, ew⟩ <;> rw [ew]
    · exact ⟨fun z => absurd rfl z, fun z => absurd w z.2⟩
    · exact ⟨fun z => ⟨z, w⟩, fun z => z.1⟩
  · rw [o2] at hd ⊢
    rcases qn_c ev c 0 d with ⟨w, ew⟩ | ⟨w, ew⟩ <;> rw [ew] at hd ⊢
    · exact absurd rfl hd
    · exact ⟨ha' d hd, hL.2.2 d hd⟩
  · intro d hd
    rcases qn_c L b [] d with ⟨w, ew⟩ | ⟨w, ew⟩ <;> rw [ew]
    · rw [w, pk_us]
      refine ⟨rfl, List.nodup_nil, fun e => ⟨fun z => absurd z List.not_mem_nil, fun z => ?_⟩⟩
      obtain ⟨b', g1, g2, g3, g4⟩ := hbk e z.1.1 z.1.2
      have := qb_uni g4 z.2
      omega
    · rw [pk_un w]
      obtain ⟨p1, p2, p3⟩ := Q d hd
      refine ⟨p1, p2, fun e => ⟨fun z => ?_, fun z => ?_⟩⟩
      · have hz := (p3 e).mp z
        have hnb : e ∉ L b := fun y => w (qb_uni hz.2 ((q3 e).mp y).2)
        refine ⟨⟨hz.1, hnb⟩, qb_mv hat hz.2 ?_⟩
        rcases Nat.lt_or_ge d b with v | v
        · rw [hlow d v] at z; exact absurd z List.not_mem_nil
        · omega
      · obtain ⟨b', g1, g2, g3, g4⟩ := hbk e z.1.1 z.1.2
        rw [qb_uni z.2 g4]
        exact g3
  · constructor
    · rintro (w | w)
      · exact ⟨w.1, fun z => w.2 (by rw [z]; exact hc)⟩
      · exact ⟨((q3 d).mp w.1).1, w.2⟩
    · rintro ⟨w, v⟩
      rcases Classical.em (d ∈ L b) with z | z
      · exact Or.inr ⟨z, v⟩
      · exact Or.inl ⟨w, z⟩
end
section
/-- engine 2: a row of trees from a on, over the customers of l, none below k -/
def qt_f (fc ns : Nat → Int32) (ev : Nat → Nat) : Nat → Int32 → Nat → List Nat → Prop
  | 0, a, _, l => a = -1 ∧ l = []
  | n + 1, a, k, l => (a = -1 ∧ l = []) ∨ ∃ c l1 l2, a = nI c ∧ l = c :: (l1 ++ l2) ∧ k ≤ ev c ∧ qt_f fc ns ev n (fc c) (ev c) l1 ∧ qt_f fc ns ev n (ns c) k l2
theorem qt_up {fc ns : Nat → Int32} {ev : Nat → Nat} : ∀ {n : Nat} {a : Int32} {k : Nat} {l : List Nat}, qt_f fc ns ev n a k l → qt_f fc ns ev (n + 1) a k l := by
  intro n
  induction n with
  | zero => intro a k l h; exact Or.inl h
  | succ n ih =>
    intro a k l h
    rcases h with h | ⟨c, l1, l2, h1, h2, h3, h4, h5⟩
    · exact Or.inl h
    · exact Or.inr ⟨c, l1, l2, h1, h2, h3, ih h4, ih h5⟩
theorem qt_upm {fc ns : Nat → Int32} {ev : Nat → Nat} {n m : Nat} {a : Int32} {k : Nat} {l : List Nat} (h : n ≤ m) (q : qt_f fc ns ev n a k l) : qt_f fc ns ev m a k l := by
  induction m with
  | zero => rw [show n = 0 by omega] at q; exact q
  | succ m ih =>
    by_cases e : n = m + 1
    · rw [e] at q; exact q
    · exact qt_up (ih (by omega))
def qt_F (fc ns : Nat → Int32) (ev : Nat → Nat) (a : Int32) (k : Nat) (l : List Nat) : Prop := ∃ n, qt_f fc ns ev n a k l
theorem qt_nil {fc ns : Nat → Int32} {ev : Nat → Nat} {k : Nat} : qt_F fc ns ev (-1) k [] := ⟨0, rfl, rfl⟩
theorem qt_cons {fc ns : Nat → Int32} {ev : Nat → Nat} {k c : Nat} {l1 l2 : List Nat} (h : k ≤ ev c) (q1 : qt_F fc ns ev (fc c) (ev c) l1) (q2 : qt_F fc ns ev (ns c) k l2) : qt_F fc ns ev (nI c) k (c :: (l1 ++ l2)) := by
  obtain ⟨n, q1⟩ := q1
  obtain ⟨m, q2⟩ := q2
  exact ⟨max n m + 1, Or.inr ⟨c, l1, l2, rfl, rfl, h, qt_upm (by omega) q1, qt_upm (by omega) q2⟩⟩
theorem qt_inv {fc ns : Nat → Int32} {ev : Nat → Nat} {k : Nat} {a : Int32} {l : List Nat} (q : qt_F fc ns ev a k l) : (a = -1 ∧ l = []) ∨ ∃ c l1 l2, a = nI c ∧ l = c :: (l1 ++ l2) ∧ k ≤ ev c ∧ qt_F fc ns ev (fc c) (ev c) l1 ∧ qt_F fc ns ev (ns c) k l2 := by
  obtain ⟨n, q⟩ := q
  match n, q with
  | 0, q => exact Or.inl q
  | n + 1, q =>
    rcases q with h | ⟨c, l1, l2, h1, h2, h3, h4, h5⟩
    · exact Or.inl h
    · exact Or.inr ⟨c, l1, l2, h1, h2, h3, ⟨n, h4⟩, ⟨n, h5⟩⟩
theorem qt_fr {fc ns fc' ns' : Nat → Int32} {ev ev' : Nat → Nat} {k : Nat} {a : Int32} {l : List Nat} (hf : ∀ c, c ∈ l → fc' c = fc c ∧ ns' c = ns c ∧ ev' c = ev c) (q : qt_F fc ns ev a k l) : qt_F fc' ns' ev' a k l := by
  obtain ⟨n, q⟩ := q
  refine ⟨n, ?_⟩
  induction n generalizing a k l with
  | zero => exact q
  | succ n ih =>
    rcases q with h | ⟨c, l1, l2, h1, h2, h3, h4, h5⟩
    · exact Or.inl h
    · have hc : c ∈ l := by rw [h2]; exact List.mem_cons_self ..
      obtain ⟨f1, f2, f3⟩ := hf c hc
      refine Or.inr ⟨c, l1, l2, h1, h2, by rw [f3]; exact h3, ?_, ?_⟩
      · rw [f1, f3]
        exact ih (fun d hd => hf d (by rw [h2]; exact List.mem_cons_of_mem c (List.mem_append_left _ hd))) h4
      · rw [f2]
        exact ih (fun d hd => hf d (by rw [h2]; exact List.mem_cons_of_mem c (List.mem_append_right _ hd))) h5
theorem qt_ge {fc ns : Nat → Int32} {ev : Nat → Nat} {k : Nat} {a : Int32} {l : List Nat} (q : qt_F fc ns ev a k l) : ∀ c, c ∈ l → k ≤ ev c := by
  obtain ⟨n, q⟩ := q
  induction n generalizing a k l with
  | zero => intro c hc; rw [q.2] at hc; exact absurd hc List.not_mem_nil
  | succ n ih =>
    intro d hd
    rcases q with h | ⟨c, l1, l2, h1, h2, h3, h4, h5⟩
    · rw [h.2] at hd; exact absurd hd List.not_mem_nil
    · rw [h2] at hd
      rcases List.mem_cons.mp hd with z | z
      · rw [z]; exact h3
      · rcases List.mem_append.mp z with w | w
        · exact Nat.le_trans h3 (ih h4 d w)
        · exact ih h5 d w
theorem qt_by {fc ns : Nat → Int32} {ev : Nat → Nat} {k : Nat} {a : Int32} {l : List Nat} (q : qt_F fc ns ev a k l) (hb : ∀ c, c ∈ l → c < 12) : vp_nar .byte a = a := by
  rcases qt_inv q with ⟨e, _⟩ | ⟨c, l1, l2, e, h2, _⟩
  · rw [e]; exact qn_vm
  · rw [e]; exact qn_vb (Nat.lt_trans (hb c (by rw [h2]; exact List.mem_cons_self ..)) (by decide))
/-- one tree: its root c, over the customers of l -/
def qt_T (fc ns : Nat → Int32) (ev : Nat → Nat) (c : Nat) (l : List Nat) : Prop := ∃ m, l = c :: m ∧ qt_F fc ns ev (fc c) (ev c) m
theorem qt_Tfr {fc ns fc' ns' : Nat → Int32} {ev ev' : Nat → Nat} {c : Nat} {l : List Nat} (hf : ∀ d, d ∈ l → fc' d = fc d ∧ ev' d = ev d) (hg : ∀ d, d ∈ l → d ≠ c → ns' d = ns d) (hn : l.Nodup) (q : qt_T fc ns ev c l) : qt_T fc' ns' ev' c l := by
  obtain ⟨m, hm, q⟩ := q
  rw [hm] at hn
  obtain ⟨n1, n2⟩ := List.nodup_cons.mp hn
  obtain ⟨e1, e2⟩ := hf c (by rw [hm]; exact List.mem_cons_self ..)
  refine ⟨m, hm, ?_⟩
  rw [e1, e2]
  refine qt_fr (fun d hd => ?_) q
  have hdl : d ∈ l := by rw [hm]; exact List.mem_cons_of_mem c hd
  exact ⟨(hf d hdl).1, hg d hdl (fun z => n1 (by rw [← z]; exact hd)), (hf d hdl).2⟩
theorem qt_Tge {fc ns : Nat → Int32} {ev : Nat → Nat} {c : Nat} {l : List Nat} (q : qt_T fc ns ev c l) : ∀ d, d ∈ l → ev c ≤ ev d := by
  obtain ⟨m, hm, q⟩ := q
  intro d hd
  rw [hm] at hd
  rcases List.mem_cons.mp hd with z | z
  · rw [z]; exact Nat.le_refl _
  · exact qt_ge q d z
theorem qt_Tc {fc ns : Nat → Int32} {ev : Nat → Nat} {c : Nat} {l : List Nat} (q : qt_T fc ns ev c l) : c ∈ l := by
  obtain ⟨m, hm, q⟩ := q
  rw [hm]; exact List.mem_cons_self ..
/-- two trees become one -/
theorem qt_join {fc ns : Nat → Int32} {ev : Nat → Nat} {a b : Nat} {la lb : List Nat} {v : Int32} (qa : qt_T fc ns ev a la) (qb : qt_T fc ns ev b lb) (na : la.Nodup) (nb : lb.Nodup) (hd : ∀ c, c ∈ la → c ∉ lb) (h : ev a ≤ ev b) (hv : v = fc a) :
    ∃ l, qt_T (upd fc a (nI b)) (upd ns b v) ev a l ∧ l.Nodup ∧ ∀ c, c ∈ l ↔ (c ∈ la ∨ c ∈ lb) := by
  obtain ⟨ma, hma, qa⟩ := qa
  obtain ⟨mb, hmb, qb⟩ := qb
  rw [hma] at na
  rw [hmb] at nb
  obtain ⟨na1, na2⟩ := List.nodup_cons.mp na
  obtain ⟨nb1, nb2⟩ := List.nodup_cons.mp nb
  have ha : a ∈ la := by rw [hma]; exact List.mem_cons_self ..
  have hb : b ∈ lb := by rw [hmb]; exact List.mem_cons_self ..
  have hab : a ≠ b := fun z => hd a ha (by rw [z]; exact hb)
  have hma' : ∀ c, c ∈ ma → c ∈ la := fun c hc => by rw [hma]; exact List.mem_cons_of_mem a hc
  have hmb' : ∀ c, c ∈ mb → c ∈ lb := fun c hc => by rw [hmb]; exact List.mem_cons_of_mem b hc
  refine ⟨a :: (b :: (mb ++ ma)), ⟨b :: (mb ++ ma), rfl, ?_⟩, ?_, fun c => ?_⟩
  · rw [pk_us]
    refine qt_cons h ?_ ?_
    · rw [pk_un (Ne.symm hab)]
      refine qt_fr (fun c hc => ⟨pk_un (fun z => ?_), pk_un (fun z => ?_), rfl⟩) qb
      · exact hd a ha (by rw [← z]; exact hmb' c hc)
      · exact nb1 (by rw [← z]; exact hc)
    · rw [pk_us, hv]
      refine qt_fr (fun c hc => ⟨pk_un (fun z => ?_), pk_un (fun z => ?_), rfl⟩) qa
      · exact na1 (by rw [← z]; exact hc)
      · exact hd c (hma' c hc) (by rw [z]; exact hb)
  · refine List.nodup_cons.mpr ⟨fun z => ?_, List.nodup_cons.mpr ⟨fun z => ?_, List.nodup_append.mpr ⟨nb2, na2, fun x hx y hy => ?_⟩⟩⟩
    · rcases List.mem_cons.mp z with w | w
      · exact hab w
      · rcases List.mem_append.mp w with v' | v'
        · exact hd a ha (hmb' a v')
        · exact na1 v'
    · rcases List.mem_append.mp z with w | w
      · exact nb1 w
      · exact hd b (hma' b w) hb
    · intro e
      exact hd y (hma' y hy) (by rw [← e]; exact hmb' x hx)
  · rw [hma, hmb, List.mem_cons, List.mem_cons, List.mem_append, List.mem_cons, List.mem_cons]
    constructor
    · rintro (z | z | z | z)
      · exact Or.inl (Or.inl z)
      · exact Or.inr (Or.inl z)
      · exact Or.inr (Or.inr z)
      · exact Or.inl (Or.inr z)
    · rintro ((z | z) | (z | z))
      · exact Or.inl z
      · exact Or.inr (Or.inr (Or.inr z))
      · exact Or.inr (Or.inl z)
      · exact Or.inr (Or.inr (Or.inl z))
theorem qt_meld {post : Int32 → St1 → Prop} {cu ch en pe td rt lk : Int32} {a1 a2 a3 a4 a5 a6 a7 a8 a9 a10 a11 a12 a13 a14 a15 a16 a17 a18 a19 a20 a21 a22 a23 a24 a25 a26 a27 : Nat → Int32} {a b : Nat} {ev : Nat → Nat} {la lb : List Nat} (qa : qt_T a24 a25 ev a la) (qb : qt_T a24 a25 ev b lb) (na : la.Nodup) (nb : lb.Nodup) (hd : ∀ c, c ∈ la → c ∉ lb) (h12 : ∀ c, c ∈ la ∨ c ∈ lb → c < 12 ∧ ev c < 1048576 ∧ a23 c = nI (ev c))
    (H : ∀ r a24' a25' l, r < 12 → qt_T a24' a25' ev r l → l.Nodup → (∀ c, c ∈ l ↔ (c ∈ la ∨ c ∈ lb)) → (∀ c, c ∉ la → c ∉ lb → a24' c = a24 c ∧ a25' c = a25 c) → post (nI r) (cu, ch, en, pe, td, rt, lk, a1, a2, a3, a4, a5, a6, a7, a8, a9, a10, a11, a12, a13, a14, a15, a16, a17, a18, a19, a20, a21, a22, a23, a24', a25', a26, a27)) : wpX_meld post (cu, ch, en, pe, td, rt, lk, a1, a2, a3, a4, a5, a6, a7, a8, a9, a10, a11, a12, a13, a14, a15, a16, a17, a18, a19, a20, a21, a22, a23, a24, a25, a26, a27) (nI a) (nI b) := by
  have ha := qt_Tc qa
  have hb := qt_Tc qb
  obtain ⟨a1', a2', a3'⟩ := h12 a (Or.inl ha)
  obtain ⟨b1', b2', b3'⟩ := h12 b (Or.inr hb)
  have hab : a ≠ b := fun z => hd a ha (by rw [z]; exact hb)
  have ca : (nI a).toNatClampNeg = a := qn_cl (by omega)
  have cb : (nI b).toNatClampNeg = b := qn_cl (by omega)
  have one : ∀ x y lx ly, qt_T a24 a25 ev x lx → qt_T a24 a25 ev y ly → lx.Nodup → ly.Nodup → (∀ c, c ∈ lx → c ∉ ly) → ev x ≤ ev y → x < 12 → y < 12 → (∀ c, (c ∈ lx ∨ c ∈ ly) ↔ (c ∈ la ∨ c ∈ lb)) → wX_meld_49 post (nI x) (nI y) cu ch en pe td rt lk a1 a2 a3 a4 a5 a6 a7 a8 a9 a10 a11 a12 a13 a14 a15 a16 a17 a18 a19 a20 a21 a22 a23 a24 a25 a26 a27 := by
    intro x y lx ly qx qy nx ny hxy hle hx hy hm
    have cx : (nI x).toNatClampNeg = x := qn_cl (by omega)
    have cy : (nI y).toNatClampNeg = y := qn_cl (by omega)
    refine And.intro (pk_in x 12 hx) ⟨pk_in y 12 hy, nm_e ⟨pk_in x 12 hx, nm_e ?_⟩⟩
    rw [cx, cy, qn_b y (by omega)]
    have hv : vp_nar .byte (a24 x) = a24 x := by
      obtain ⟨m, hm', q⟩ := qx
      exact qt_by q (fun c hc => (h12 c ((hm c).mp (Or.inl (by rw [hm']; exact List.mem_cons_of_mem x hc)))).1)
    obtain ⟨l, j1, j2, j3⟩ := qt_join qx qy nx ny hxy hle hv
    refine H x _ _ l hx j1 j2 (fun c => by rw [j3 c, hm c]) (fun c n1 n2 => ?_)
    have hcx : c ≠ x := fun z => by
      have := (hm c).mp (Or.inl (by rw [z]; exact qt_Tc qx))
      rcases this with w | w
      · exact n1 w
      · exact n2 w
    have hcy : c ≠ y := fun z => by
      have := (hm c).mp (Or.inr (by rw [z]; exact qt_Tc qy))
      rcases this with w | w
      · exact n1 w
      · exact n2 w
    exact ⟨pk_un hcx, pk_un hcy⟩
  refine br_f (nI_pos (by omega)) (br_t (nI_pos' (by omega)) ⟨pk_in a 12 a1', pk_in b 12 b1', ?_⟩)
  refine pk_le (ev b) (ev a) (fun z => ?_) (fun z => ?_) (by rw [cb]; exact b3') (by rw [ca]; exact a3')
  · refine br_f (fun e => hab (qn_inj (by omega) (by omega) e).symm) ?_
    exact one b a lb la qb qa nb na (fun c h1 h2 => hd c h2 h1) z b1' a1' (fun c => Or.comm)
  · refine br_t rfl ?_
    exact one a b la lb qa qb na nb hd (by omega) a1' b1' (fun c => Iff.rfl)
theorem qt_meldl {post : Int32 → St1 → Prop} {cu ch en pe td rt lk : Int32} {a1 a2 a3 a4 a5 a6 a7 a8 a9 a10 a11 a12 a13 a14 a15 a16 a17 a18 a19 a20 a21 a22 a23 a24 a25 a26 a27 : Nat → Int32} {y : Int32} (H : post y (cu, ch, en, pe, td, rt, lk, a1, a2, a3, a4, a5, a6, a7, a8, a9, a10, a11, a12, a13, a14, a15, a16, a17, a18, a19, a20, a21, a22, a23, a24, a25, a26, a27)) : wpX_meld post (cu, ch, en, pe, td, rt, lk, a1, a2, a3, a4, a5, a6, a7, a8, a9, a10, a11, a12, a13, a14, a15, a16, a17, a18, a19, a20, a21, a22, a23, a24, a25, a26, a27) (-1) y := br_t qn_m1 (br_f qn_m1' H)
theorem qt_meldr {post : Int32 → St1 → Prop} {cu ch en pe td rt lk : Int32} {a1 a2 a3 a4 a5 a6 a7 a8 a9 a10 a11 a12 a13 a14 a15 a16 a17 a18 a19 a20 a21 a22 a23 a24 a25 a26 a27 : Nat → Int32} {a : Nat} (ha : a < 12) (H : post (nI a) (cu, ch, en, pe, td, rt, lk, a1, a2, a3, a4, a5, a6, a7, a8, a9, a10, a11, a12, a13, a14, a15, a16, a17, a18, a19, a20, a21, a22, a23, a24, a25, a26, a27)) : wpX_meld post (cu, ch, en, pe, td, rt, lk, a1, a2, a3, a4, a5, a6, a7, a8, a9, a10, a11, a12, a13, a14, a15, a16, a17, a18, a19, a20, a21, a22, a23, a24, a25, a26, a27) (nI a) (-1) := br_f (nI_pos (by omega)) (br_f qn_m1' (br_t (nI_pos' (by omega)) H))
theorem qt_meld_2 {post : Int32 → St1 → Prop} {cu ch en pe td rt lk : Int32} {a1 a2 a3 a4 a5 a6 a7 a8 a9 a10 a11 a12 a13 a14 a15 a16 a17 a18 a19 a20 a21 a22 a23 a24 a25 a26 a27 : Nat → Int32} {a b : Nat} {ev : Nat → Nat} {la lb : List Nat} (qa : qt_T a24 a25 ev a la) (qb : qt_T a24 a25 ev b lb) (na : la.Nodup) (nb : lb.Nodup) (hd : ∀ c, c ∈ la → c ∉ lb) (h12 : ∀ c, c ∈ la ∨ c ∈ lb → c < 12 ∧ ev c < 1048576 ∧ a23 c = nI (ev c))
    (H : ∀ r a24' a25' l, r < 12 → qt_T a24' a25' ev r l → l.Nodup → (∀ c, c ∈ l ↔ (c ∈ la ∨ c ∈ lb)) → (∀ c, c ∉ la → c ∉ lb → a24' c = a24 c ∧ a25' c = a25 c) → post (nI r) (cu, ch, en, pe, td, rt, lk, a1, a2, a3, a4, a5, a6, a7, a8, a9, a10, a11, a12, a13, a14, a15, a16, a17, a18, a19, a20, a21, a22, a23, a24', a25', a26, a27)) : wpX_meld_2 post (cu, ch, en, pe, td, rt, lk, a1, a2, a3, a4, a5, a6, a7, a8, a9, a10, a11, a12, a13, a14, a15, a16, a17, a18, a19, a20, a21, a22, a23, a24, a25, a26, a27) (nI a) (nI b) := by
  have ha := qt_Tc qa
  have hb := qt_Tc qb
  obtain ⟨a1', a2', a3'⟩ := h12 a (Or.inl ha)
  obtain ⟨b1', b2', b3'⟩ := h12 b (Or.inr hb)
  have hab : a ≠ b := fun z => hd a ha (by rw [z]; exact hb)
  have ca : (nI a).toNatClampNeg = a := qn_cl (by omega)
  have cb : (nI b).toNatClampNeg = b := qn_cl (by omega)
  have one : ∀ x y lx ly, qt_T a24 a25 ev x lx → qt_T a24 a25 ev y ly → lx.Nodup → ly.Nodup → (∀ c, c ∈ lx → c ∉ ly) → ev x ≤ ev y → x < 12 → y < 12 → (∀ c, (c ∈ lx ∨ c ∈ ly) ↔ (c ∈ la ∨ c ∈ lb)) → wX_meld_2_49 post (nI x) (nI y) cu ch en pe td rt lk a1 a2 a3 a4 a5 a6 a7 a8 a9 a10 a11 a12 a13 a14 a15 a16 a17 a18 a19 a20 a21 a22 a23 a24 a25 a26 a27 := by
    intro x y lx ly qx qy nx ny hxy hle hx hy hm
    have cx : (nI x).toNatClampNeg = x := qn_cl (by omega)
    have cy : (nI y).toNatClampNeg = y := qn_cl (by omega)
    refine And.intro (pk_in x 12 hx) ⟨pk_in y 12 hy, nm_e ⟨pk_in x 12 hx, nm_e ?_⟩⟩
    rw [cx, cy, qn_b y (by omega)]
    have hv : vp_nar .byte (a24 x) = a24 x := by
      obtain ⟨m, hm', q⟩ := qx
      exact qt_by q (fun c hc => (h12 c ((hm c).mp (Or.inl (by rw [hm']; exact List.mem_cons_of_mem x hc)))).1)
    obtain ⟨l, j1, j2, j3⟩ := qt_join qx qy nx ny hxy hle hv
    refine H x _ _ l hx j1 j2 (fun c => by rw [j3 c, hm c]) (fun c n1 n2 => ?_)
    have hcx : c ≠ x := fun z => by
      have := (hm c).mp (Or.inl (by rw [z]; exact qt_Tc qx))
      rcases this with w | w
      · exact n1 w
      · exact n2 w
    have hcy : c ≠ y := fun z => by
      have := (hm c).mp (Or.inr (by rw [z]; exact qt_Tc qy))
      rcases this with w | w
      · exact n1 w
      · exact n2 w
    exact ⟨pk_un hcx, pk_un hcy⟩
  refine br_f (nI_pos (by omega)) (br_t (nI_pos' (by omega)) ⟨pk_in a 12 a1', pk_in b 12 b1', ?_⟩)
  refine pk_le (ev b) (ev a) (fun z => ?_) (fun z => ?_) (by rw [cb]; exact b3') (by rw [ca]; exact a3')
  · refine br_f (fun e => hab (qn_inj (by omega) (by omega) e).symm) ?_
    exact one b a lb la qb qa nb na (fun c h1 h2 => hd c h2 h1) z b1' a1' (fun c => Or.comm)
  · refine br_t rfl ?_
    exact one a b la lb qa qb na nb hd (by omega) a1' b1' (fun c => Iff.rfl)
theorem qt_meld_2l {post : Int32 → St1 → Prop} {cu ch en pe td rt lk : Int32} {a1 a2 a3 a4 a5 a6 a7 a8 a9 a10 a11 a12 a13 a14 a15 a16 a17 a18 a19 a20 a21 a22 a23 a24 a25 a26 a27 : Nat → Int32} {y : Int32} (H : post y (cu, ch, en, pe, td, rt, lk, a1, a2, a3, a4, a5, a6, a7, a8, a9, a10, a11, a12, a13, a14, a15, a16, a17, a18, a19, a20, a21, a22, a23, a24, a25, a26, a27)) : wpX_meld_2 post (cu, ch, en, pe, td, rt, lk, a1, a2, a3, a4, a5, a6, a7, a8, a9, a10, a11, a12, a13, a14, a15, a16, a17, a18, a19, a20, a21, a22, a23, a24, a25, a26, a27) (-1) y := br_t qn_m1 (br_f qn_m1' H)
theorem qt_meld_2r {post : Int32 → St1 → Prop} {cu ch en pe td rt lk : Int32} {a1 a2 a3 a4 a5 a6 a7 a8 a9 a10 a11 a12 a13 a14 a15 a16 a17 a18 a19 a20 a21 a22 a23 a24 a25 a26 a27 : Nat → Int32} {a : Nat} (ha : a < 12) (H : post (nI a) (cu, ch, en, pe, td, rt, lk, a1, a2, a3, a4, a5, a6, a7, a8, a9, a10, a11, a12, a13, a14, a15, a16, a17, a18, a19, a20, a21, a22, a23, a24, a25, a26, a27)) : wpX_meld_2 post (cu, ch, en, pe, td, rt, lk, a1, a2, a3, a4, a5, a6, a7, a8, a9, a10, a11, a12, a13, a14, a15, a16, a17, a18, a19, a20, a21, a22, a23, a24, a25, a26, a27) (nI a) (-1) := br_f (nI_pos (by omega)) (br_f qn_m1' (br_t (nI_pos' (by omega)) H))
def qt_R (a23 a24 a25 : Nat → Int32) (rt : Int32) (ev : Nat → Nat) : Prop := (∀ c, ev c ≠ 0 → a23 c = nI (ev c)) ∧ ((rt = -1 ∧ ∀ c, ev c = 0) ∨ ∃ r l, rt = nI r ∧ qt_T a24 a25 ev r l ∧ l.Nodup ∧ ∀ c, c ∈ l ↔ ev c ≠ 0)
theorem qt_add {post : St1 → Prop} {cu ch en pe td rt lk : Int32} {a1 a2 a3 a4 a5 a6 a7 a8 a9 a10 a11 a12 a13 a14 a15 a16 a17 a18 a19 a20 a21 a22 a23 a24 a25 a26 a27 : Nat → Int32} {E : Nat} {ev : Nat → Nat} (ok : qe_ok ev) (hE : qe_new ev E) (R : qt_R a23 a24 a25 rt ev)
    (H : ∀ rt' a23' a24' a25', qt_R a23' a24' a25' rt' (qn_u ev (E % 16) E) → post (cu, ch, en, pe, td, rt', lk, a1, a2, a3, a4, a5, a6, a7, a8, a9, a10, a11, a12, a13, a14, a15, a16, a17, a18, a19, a20, a21, a22, a23', a24', a25', a26, a27)) : wpX_treeAdd post (cu, ch, en, pe, td, rt, lk, a1, a2, a3, a4, a5, a6, a7, a8, a9, a10, a11, a12, a13, a14, a15, a16, a17, a18, a19, a20, a21, a22, a23, a24, a25, a26, a27) (nI E) := by
  obtain ⟨r1, r2⟩ := R
  obtain ⟨e0, e1, e2, e3⟩ := hE
  have hc : nI E - nI E / 16 * 16 = nI (E % 16) := qn_r16 (by omega)
  have hcl : (nI (E % 16)).toNatClampNeg = E % 16 := qn_cl (by omega)
  refine And.intro qn_16 ?_
  rw [hc]
  refine ⟨pk_in (E % 16) 12 e1, nm_e ⟨pk_in (E % 16) 12 e1, nm_e ⟨pk_in (E % 16) 12 e1, nm_e ?_⟩⟩⟩
  rw [hcl]
  have ok' := qe_oku ok e1 e2
  have h23 : ∀ c, qn_u ev (E % 16) E c ≠ 0 → upd a23 (E % 16) (nI E) c = nI (qn_u ev (E % 16) E c) := by
    intro c hn
    rcases qn_c ev (E % 16) E c with ⟨y, ey⟩ | ⟨y, ey⟩ <;> rw [ey] at hn ⊢
    · rw [y, pk_us]
    · rw [pk_un y]; exact r1 c hn
  have qc : qt_T (upd a24 (E % 16) (-1)) (upd a25 (E % 16) (-1)) (qn_u ev (E % 16) E) (E % 16) [E % 16] := ⟨[], rfl, by rw [pk_us]; exact qt_nil⟩
  rcases r2 with ⟨hr, hz⟩ | ⟨r, l, hr, hT, hn, hm⟩
  · rw [hr]
    refine qt_meldl (H _ _ _ _ ⟨h23, Or.inr ⟨E % 16, [E % 16], rfl, qc, List.nodup_cons.mpr ⟨List.not_mem_nil, List.nodup_nil⟩, fun c => ?_⟩⟩)
    rw [List.mem_singleton]
    rcases qn_c ev (E % 16) E c with ⟨y, ey⟩ | ⟨y, ey⟩ <;> rw [ey]
    · exact ⟨fun _ => e0, fun _ => y⟩
    · exact ⟨fun z => absurd z y, fun z => absurd (hz c) z⟩
  · have hcl' : E % 16 ∉ l := fun z => absurd e3 ((hm _).mp z)
    have hne : ∀ c, c ∈ l → c ≠ E % 16 := fun c hc z => hcl' (by rw [← z]; exact hc)
    have hT' : qt_T (upd a24 (E % 16) (-1)) (upd a25 (E % 16) (-1)) (qn_u ev (E % 16) E) r l := qt_Tfr (fun d hd => ⟨pk_un (hne d hd), qn_un (hne d hd)⟩) (fun d hd _ => pk_un (hne d hd)) hn hT
    rw [hr]
    refine qt_meld hT' qc hn (List.nodup_cons.mpr ⟨List.not_mem_nil, List.nodup_nil⟩) (fun c hc z => hne c hc (List.mem_singleton.mp z)) (fun c hc => ?_) (fun r' a24' a25' l' _ g1 g2 g3 _ => H _ _ _ _ ⟨h23, Or.inr ⟨r', l', rfl, g1, g2, fun c => ?_⟩⟩)
    · have hn' : qn_u ev (E % 16) E c ≠ 0 := by
        rcases hc with w | w
        · rw [qn_un (hne c w)]; exact (hm c).mp w
        · rw [List.mem_singleton.mp w, qn_us]; exact e0
      exact ⟨(ok' c hn').1, (ok' c hn').2.2, h23 c hn'⟩
    · rw [g3 c, hm c, List.mem_singleton]
      rcases qn_c ev (E % 16) E c with ⟨y, ey⟩ | ⟨y, ey⟩ <;> rw [ey]
      · exact ⟨fun _ => e0, fun _ => Or.inr y⟩
      · exact ⟨fun z => z.resolve_right y, Or.inl⟩
theorem qt_len : ∀ {k : Nat} {l : List Nat}, l.Nodup → (∀ c, c ∈ l → c < k) → l.length ≤ k := by
  intro k l hn hl
  have h := List.Nodup.length_le_of_subset (l₁ := l) (l₂ := List.range k) hn (fun c hc => List.mem_range.mpr (hl c hc))
  rw [List.length_range] at h
  exact h
/-- i trees stand in a row: roots r, customers N -/
def qt_W (a24 a25 a26 : Nat → Int32) (ev : Nat → Nat) (i : Nat) (r : Nat → Nat) (N : Nat → List Nat) : Prop := ∀ j, j < i → a26 j = nI (r j) ∧ qt_T a24 a25 ev (r j) (N j) ∧ (N j).Nodup
theorem qt_take105 {post : Int32 → St1 → Prop} {cu ch en pe td lk : Int32} {a1 a2 a3 a4 a5 a6 a7 a8 a9 a10 a11 a12 a13 a14 a15 a16 a17 a18 a19 a20 a21 a22 a23 a26 a27 : Nat → Int32} {x1 : Int32} {n : Nat} {ev : Nat → Nat} {r : Nat → Nat} {N : Nat → List Nat} (hn : n < 13) (hdis : ∀ i j c, i < n → j < n → c ∈ N i → c ∈ N j → i = j) (h12 : ∀ j c, j < n → c ∈ N j → c < 12 ∧ ev c < 1048576 ∧ a23 c = nI (ev c))
    (H : ∀ rt a24 a25, ((rt = -1 ∧ n = 0) ∨ (∃ q l, rt = nI q ∧ qt_T a24 a25 ev q l ∧ l.Nodup ∧ ∀ c, c ∈ l ↔ ∃ j, j < n ∧ c ∈ N j)) → post x1 (cu, ch, en, pe, td, rt, lk, a1, a2, a3, a4, a5, a6, a7, a8, a9, a10, a11, a12, a13, a14, a15, a16, a17, a18, a19, a20, a21, a22, a23, a24, a25, a26, a27)) :
    ∀ (i : Nat) (rt x4 : Int32) (a24 a25 : Nat → Int32), i ≤ n → x4 = (if i = 0 then -1 else nI (i - 1)) → qt_W a24 a25 a26 ev i r N → ((rt = -1 ∧ i = n) ∨ (∃ q l, rt = nI q ∧ qt_T a24 a25 ev q l ∧ l.Nodup ∧ ∀ c, c ∈ l ↔ ∃ j, i ≤ j ∧ j < n ∧ c ∈ N j)) → wX_treeTake_105 post x1 (i + 1) x4 cu ch en pe td rt lk a1 a2 a3 a4 a5 a6 a7 a8 a9 a10 a11 a12 a13 a14 a15 a16 a17 a18 a19 a20 a21 a22 a23 a24 a25 a26 a27 := by
  intro i
  induction i with
  | zero =>
    intro rt x4 a24 a25 hi hx hW hr
    rw [if_pos rfl] at hx
    refine br_t (by rw [hx]; exact qn_m1) (H rt a24 a25 ?_)
    rcases hr with ⟨z, w⟩ | ⟨q, l, z1, z2, z3, z4⟩
    · exact Or.inl ⟨z, w.symm⟩
    · refine Or.inr ⟨q, l, z1, z2, z3, fun c => ?_⟩
      rw [z4 c]
      exact ⟨fun ⟨j, _, h2, h3⟩ => ⟨j, h2, h3⟩, fun ⟨j, h2, h3⟩ => ⟨j, by omega, h2, h3⟩⟩
  | succ i ih =>
    intro rt x4 a24 a25 hi hx hW hr
    rw [if_neg (by omega), Nat.add_sub_cancel] at hx
    obtain ⟨w1, w2, w3⟩ := hW i (by omega)
    have hri := h12 i (r i) (by omega) (qt_Tc w2)
    have hx' : nI i + (-1) = (if i = 0 then -1 else nI (i - 1)) := by
      by_cases e : i = 0
      · rw [if_pos e, e]; decide
      · rw [if_neg e]; exact sb_m1 (by omega)
    have hcl : (nI i).toNatClampNeg = i := qn_cl (by omega)
    rw [hx]
    refine br_f (nI_pos (by omega)) ⟨pk_in i 12 (by omega), ?_⟩
    rw [hcl, w1]
    rcases hr with ⟨z, w⟩ | ⟨q, l, z1, z2, z3, z4⟩
    · rw [z]
      refine qt_meldl (nm_r hx' ?_)
      refine ih (nI (r i)) _ a24 a25 (by omega) rfl (fun j hj => hW j (by omega)) (Or.inr ⟨r i, N i, rfl, w2, w3, fun c => ?_⟩)
      exact ⟨fun h => ⟨i, by omega, by omega, h⟩, fun ⟨j, h1, h2, h3⟩ => by rw [show i = j by omega]; exact h3⟩
    · rw [z1]
      have hsep : ∀ c, c ∈ l → ∀ j, j < i + 1 → c ∉ N j := by
        intro c hc j hj hj2
        obtain ⟨j', g1, g2, g3⟩ := (z4 c).mp hc
        have := hdis j j' c (by omega) g2 hj2 g3
        omega
      refine qt_meld z2 w2 z3 w3 (fun c hc => hsep c hc i (by omega)) (fun c hc => ?_) (fun q' a24' a25' l' _ g1 g2 g3 g4 => nm_r hx' ?_)
      · rcases hc with y | y
        · obtain ⟨j', g1, g2, g3⟩ := (z4 c).mp y
          exact h12 j' c g2 g3
        · exact h12 i c (by omega) y
      · refine ih (nI q') _ a24' a25' (by omega) rfl (fun j hj => ?_) (Or.inr ⟨q', l', rfl, g1, g2, fun c => ?_⟩)
        · obtain ⟨v1, v2, v3⟩ := hW j (by omega)
          have hout : ∀ d, d ∈ N j → d ∉ l ∧ d ∉ N i := fun d hd => ⟨fun y => hsep d y j (by omega) hd, fun y => by have := hdis j i d (by omega) (by omega) hd y; omega⟩
          refine ⟨v1, qt_Tfr (fun d hd => ⟨(g4 d (hout d hd).1 (hout d hd).2).1, rfl⟩) (fun d hd _ => (g4 d (hout d hd).1 (hout d hd).2).2) v3 v2, v3⟩
        · rw [g3 c, z4 c]
          constructor
          · rintro (⟨j, h1, h2, h3⟩ | h)
            · exact ⟨j, by omega, h2, h3⟩
            · exact ⟨i, by omega, by omega, h⟩
          · rintro ⟨j, h1, h2, h3⟩
            by_cases e : j = i
            · rw [e] at h3; exact Or.inr h3
            · exact Or.inl ⟨j, by omega, h2, h3⟩
theorem qt_take22 {post : Int32 → St1 → Prop} {cu ch en pe td rt lk : Int32} {a1 a2 a3 a4 a5 a6 a7 a8 a9 a10 a11 a12 a13 a14 a15 a16 a17 a18 a19 a20 a21 a22 a23 a27 : Nat → Int32} {x1 : Int32} {k m : Nat} {ev : Nat → Nat} {P : Nat → Prop} (hm : m < 12) (hP : ∀ c, P c → c < 12 ∧ ev c < 1048576 ∧ a23 c = nI (ev c))
    (H : ∀ rt a24 a25 a26, ((rt = -1 ∧ ∀ c, ¬ P c) ∨ (∃ q l, rt = nI q ∧ qt_T a24 a25 ev q l ∧ l.Nodup ∧ ∀ c, c ∈ l ↔ P c)) → post x1 (cu, ch, en, pe, td, rt, lk, a1, a2, a3, a4, a5, a6, a7, a8, a9, a10, a11, a12, a13, a14, a15, a16, a17, a18, a19, a20, a21, a22, a23, a24, a25, a26, a27)) :
    ∀ (f n : Nat) (x3 : Int32) (a24 a25 a26 : Nat → Int32) (l : List Nat) (r : Nat → Nat) (N : Nat → List Nat), l.length < f → n + l.length ≤ m → qt_F a24 a25 ev x3 k l → l.Nodup → qt_W a24 a25 a26 ev n r N → (∀ i j c, i < n → j < n → c ∈ N i → c ∈ N j → i = j) → (∀ j c, j < n → c ∈ N j → c ∉ l) → (∀ c, P c ↔ (c ∈ l ∨ ∃ j, j < n ∧ c ∈ N j)) → wX_treeTake_22 post x1 f (nI n) x3 cu ch en pe td rt lk a1 a2 a3 a4 a5 a6 a7 a8 a9 a10 a11 a12 a13 a14 a15 a16 a17 a18 a19 a20 a21 a22 a23 a24 a25 a26 a27 := by
  intro f
  induction f with
  | zero => intro n x3 a24 a25 a26 l r N hf; omega
  | succ f ih =>
    intro n x3 a24 a25 a26 l r N hf hnl hF hl hW hdis hsep hall
    rcases qt_inv hF with ⟨hx, hnil⟩ | ⟨c, l1, l2, hx, hcons, hk, q1, q2⟩
    · rw [hx]
      have hx4 : nI n - 1 = (if n = 0 then -1 else nI (n - 1)) := by
        by_cases e : n = 0
        · rw [if_pos e, e]; decide
        · rw [if_neg e]; exact qn_s1 (by omega)
      refine br_t qn_m1 (nm_r hx4 ⟨n + 1, ?_⟩)
      refine qt_take105 (n := n) (r := r) (N := N) (ev := ev) (by omega) hdis (fun j c hj hc => hP c ((hall c).mpr (Or.inr ⟨j, hj, hc⟩))) (fun rt' a24' a25' h => H rt' a24' a25' a26 ?_) n (-1) _ a24 a25 (Nat.le_refl _) rfl hW (Or.inl ⟨rfl, rfl⟩)
      rcases h with ⟨h1, h2⟩ | ⟨q, l', h1, h2, h3, h4⟩
      · refine Or.inl ⟨h1, fun c hc => ?_⟩
        rcases (hall c).mp hc with w | ⟨j, w1, _⟩
        · rw [hnil] at w; exact absurd w List.not_mem_nil
        · omega
      · refine Or.inr ⟨q, l', h1, h2, h3, fun c => ?_⟩
        rw [h4 c, hall c, hnil]
        exact ⟨Or.inr, fun z => z.resolve_left List.not_mem_nil⟩
    · have hcl : c ∈ l := by rw [hcons]; exact List.mem_cons_self ..
      have h1l : ∀ d, d ∈ l1 → d ∈ l := fun d hd => by rw [hcons]; exact List.mem_cons_of_mem c (List.mem_append_left _ hd)
      have h2l : ∀ d, d ∈ l2 → d ∈ l := fun d hd => by rw [hcons]; exact List.mem_cons_of_mem c (List.mem_append_right _ hd)
      have hlen : l.length = l1.length + l2.length + 1 := by rw [hcons, List.length_cons, List.length_append]
      rw [hcons] at hl
      obtain ⟨n1, n2⟩ := List.nodup_cons.mp hl
      obtain ⟨n3, n4, n5⟩ := List.nodup_append.mp n2
      have nc1 : c ∉ l1 := fun z => n1 (List.mem_append_left _ z)
      have nc2 : c ∉ l2 := fun z => n1 (List.mem_append_right _ z)
      have hPl : ∀ d, d ∈ l → c < 12 ∧ d < 12 ∧ ev d < 1048576 ∧ a23 d = nI (ev d) := fun d hd => ⟨(hP c ((hall c).mpr (Or.inl hcl))).1, hP d ((hall d).mpr (Or.inl hd))⟩
      have hc12 := (hPl c hcl).1
      have ccl : (nI c).toNatClampNeg = c := qn_cl (by omega)
      have ncl : (nI n).toNatClampNeg = n := qn_cl (by omega)
      rw [hx]
      refine br_f (nI_pos (by omega)) ⟨pk_in c 12 hc12, nm_e ?_⟩
      rw [ccl]
      -- what follows once the new tree stands
      have go : ∀ (q : Nat) (a24' a25' : Nat → Int32) (lq l' : List Nat) (x5 : Int32), q < 12 → qt_T a24' a25' ev q lq → lq.Nodup → (∀ d, d ∈ lq → d ∈ l ∧ d ∉ l') → (∀ d, d ∈ l' → d ∈ l) → (∀ d, d ∈ l → d ∈ lq ∨ d ∈ l') → l'.Nodup → l'.length < l.length → qt_F a24' a25' ev x5 k l' → (∀ d, d ∉ l → a24' d = a24 d ∧ a25' d = a25 d) → wX_treeTake_22 post x1 f (nI n + 1) x5 cu ch en pe td rt lk a1 a2 a3 a4 a5 a6 a7 a8 a9 a10 a11 a12 a13 a14 a15 a16 a17 a18 a19 a20 a21 a22 a23 a24' a25' (upd a26 n (nI q)) a27 := by
        intro q a24' a25' lq l' x5 hq g1 g2 g3 g4 g5 g6 g7 g8 g9
        rw [nI_1]
        refine ih (n + 1) x5 a24' a25' (upd a26 n (nI q)) l' (qn_u r n q) (qn_u N n lq) (by omega) (by omega) g8 g6 (fun j hj => ?_) (fun i j d hi hj h1 h2 => ?_) (fun j d hj hd => ?_) (fun d => ?_)
        · by_cases e : j = n
          · rw [e, pk_us, qn_us, qn_us]; exact ⟨rfl, g1, g2⟩
          · rw [pk_un e, qn_un e, qn_un e]
            obtain ⟨v1, v2, v3⟩ := hW j (by omega)
            have hout : ∀ d, d ∈ N j → d ∉ l := fun d hd => hsep j d (by omega) hd
            exact ⟨v1, qt_Tfr (fun d hd => ⟨(g9 d (hout d hd)).1, rfl⟩) (fun d hd _ => (g9 d (hout d hd)).2) v3 v2, v3⟩
        · rcases qn_c N n lq i with ⟨y, ey⟩ | ⟨y, ey⟩ <;> rcases qn_c N n lq j with ⟨z, ez⟩ | ⟨z, ez⟩ <;> rw [ey] at h1 <;> rw [ez] at h2
          · omega
          · exact absurd (g3 d h1).1 (hsep j d (by omega) h2)
          · exact absurd (g3 d h2).1 (hsep i d (by omega) h1)
          · exact hdis i j d (by omega) (by omega) h1 h2
        · rcases qn_c N n lq j with ⟨y, ey⟩ | ⟨y, ey⟩ <;> rw [ey] at hd
          · exact (g3 d hd).2
          · exact fun z => hsep j d (by omega) hd (g4 d z)
        · rw [hall d]
          constructor
          · rintro (w | ⟨j, w1, w2⟩)
            · rcases g5 d w with v | v
              · exact Or.inr ⟨n, by omega, by rw [qn_us]; exact v⟩
              · exact Or.inl v
            · exact Or.inr ⟨j, by omega, by rw [qn_un (by omega)]; exact w2⟩
          · rintro (w | ⟨j, w1, w2⟩)
            · exact Or.inl (g4 d w)
            · rcases qn_c N n lq j with ⟨y, ey⟩ | ⟨y, ey⟩ <;> rw [ey] at w2
              · exact Or.inl (g3 d w2).1
              · exact Or.inr ⟨j, by omega, w2⟩
      rcases qt_inv q2 with ⟨hs, hnil⟩ | ⟨s, m1, m2, hs, hcons2, hk2, p1, p2⟩
      · rw [hs]
        refine br_t qn_m1 (And.intro (pk_in c 12 hc12) (nm_e (br_t qn_m1 ?_)))
        rw [ccl]
        refine qt_meld_2r hc12 ⟨pk_in n 12 (by omega), nm_e (nm_e ?_)⟩
        rw [ncl, qn_b c (by omega)]
        refine go c a24 _ (c :: l1) [] (-1) hc12 ⟨l1, rfl, ?_⟩ (List.nodup_cons.mpr ⟨nc1, n3⟩) (fun d hd => ⟨?_, List.not_mem_nil⟩) (fun d hd => absurd hd List.not_mem_nil) (fun d hd => Or.inl ?_) List.nodup_nil (by rw [hlen]; simp) qt_nil (fun d hd => ⟨rfl, pk_un (fun z => hd (by rw [z]; exact hcl))⟩)
        · exact qt_fr (fun d hd => ⟨rfl, pk_un (fun z => nc1 (by rw [← z]; exact hd)), rfl⟩) q1
        · rcases List.mem_cons.mp hd with z | z
          · rw [z]; exact hcl
          · exact h1l d z
        · rw [hcons, hnil, List.append_nil] at hd
          exact hd
      · have hsl2 : s ∈ l2 := by rw [hcons2]; exact List.mem_cons_self ..
        have hsl := h2l s hsl2
        obtain ⟨_, hs12, hsev, hs23⟩ := hPl s hsl
        have scl : (nI s).toNatClampNeg = s := qn_cl (by omega)
        have hm1 : ∀ d, d ∈ m1 → d ∈ l2 := fun d hd => by rw [hcons2]; exact List.mem_cons_of_mem s (List.mem_append_left _ hd)
        have hm2 : ∀ d, d ∈ m2 → d ∈ l2 := fun d hd => by rw [hcons2]; exact List.mem_cons_of_mem s (List.mem_append_right _ hd)
        have hlen2 : l2.length = m1.length + m2.length + 1 := by rw [hcons2, List.length_cons, List.length_append]
        rw [hcons2] at n4
        obtain ⟨t1, t2⟩ := List.nodup_cons.mp n4
        obtain ⟨t3, t4, t5⟩ := List.nodup_append.mp t2
        have ns1 : s ∉ m1 := fun z => t1 (List.mem_append_left _ z)
        have ns2 : s ∉ m2 := fun z => t1 (List.mem_append_right _ z)
        have hcs : c ≠ s := fun z => nc2 (by rw [z]; exact hsl2)
        rw [hs]
        refine br_f (nI_pos (by omega)) ⟨pk_in s 12 hs12, And.intro (pk_in c 12 hc12) (nm_e (br_f (nI_pos (by omega)) ⟨pk_in s 12 hs12, nm_e ?_⟩))⟩
        rw [ccl, scl]
        have f25 : ∀ d, d ≠ c → d ≠ s → upd (upd a25 c (-1)) s (-1) d = a25 d := fun d h1 h2 => by rw [pk_un h2, pk_un h1]
        refine qt_meld_2 (ev := ev) (la := c :: l1) (lb := s :: m1) ⟨l1, rfl, ?_⟩ ⟨m1, rfl, ?_⟩ (List.nodup_cons.mpr ⟨nc1, n3⟩) (List.nodup_cons.mpr ⟨ns1, t3⟩) (fun d h1 h2 => ?_) (fun d hd => ?_) (fun q a24' a25' lq hq g1 g2 g3 g4 => ⟨pk_in n 12 (by omega), nm_e (nm_e ?_)⟩)
        · exact qt_fr (fun d hd => ⟨rfl, f25 d (fun z => nc1 (by rw [← z]; exact hd)) (fun z => n5 d hd s hsl2 z), rfl⟩) q1
        · exact qt_fr (fun d hd => ⟨rfl, f25 d (fun z => nc2 (by rw [← z]; exact hm1 d hd)) (fun z => ns1 (by rw [← z]; exact hd)), rfl⟩) p1
        · have hd2 : d ∈ l2 := by
            rcases List.mem_cons.mp h2 with z | z
            · rw [z]; exact hsl2
            · exact hm1 d z
          rcases List.mem_cons.mp h1 with z | z
          · exact nc2 (by rw [← z]; exact hd2)
          · exact n5 d z d hd2 rfl
        · have hdl : d ∈ l := by
            rcases hd with z | z
            · rcases List.mem_cons.mp z with w | w
              · rw [w]; exact hcl
              · exact h1l d w
            · rcases List.mem_cons.mp z with w | w
              · rw [w]; exact hsl
              · exact h2l d (hm1 d w)
          exact (hPl d hdl).2
        · rw [ncl, qn_b q (by omega)]
          refine go q a24' a25' lq m2 (a25 s) hq g1 g2 (fun d hd => ?_) (fun d hd => h2l d (hm2 d hd)) (fun d hd => ?_) t4 (by omega) ?_ (fun d hd => ?_)
          · rcases (g3 d).mp hd with z | z
            · rcases List.mem_cons.mp z with w | w
              · rw [w]; exact ⟨hcl, fun y => nc2 (hm2 c y)⟩
              · exact ⟨h1l d w, fun y => n5 d w d (hm2 d y) rfl⟩
            · rcases List.mem_cons.mp z with w | w
              · rw [w]; exact ⟨hsl, ns2⟩
              · exact ⟨h2l d (hm1 d w), fun y => t5 d w d y rfl⟩
          · rw [g3 d]
            rw [hcons, hcons2] at hd
            rcases List.mem_cons.mp hd with z | z
            · exact Or.inl (Or.inl (by rw [z]; exact List.mem_cons_self ..))
            · rcases List.mem_append.mp z with w | w
              · exact Or.inl (Or.inl (List.mem_cons_of_mem c w))
              · rcases List.mem_cons.mp w with v | v
                · exact Or.inl (Or.inr (by rw [v]; exact List.mem_cons_self ..))
                · rcases List.mem_append.mp v with y | y
                  · exact Or.inl (Or.inr (List.mem_cons_of_mem s y))
                  · exact Or.inr y
          · refine qt_fr (fun d hd => ?_) p2
            have hdc : d ≠ c := fun z => nc2 (by rw [← z]; exact hm2 d hd)
            have hds : d ≠ s := fun z => ns2 (by rw [← z]; exact hd)
            have h1 : d ∉ c :: l1 := fun z => by
              rcases List.mem_cons.mp z with w | w
              · exact hdc w
              · exact n5 d w d (hm2 d hd) rfl
            have h2 : d ∉ s :: m1 := fun z => by
              rcases List.mem_cons.mp z with w | w
              · exact hds w
              · exact t5 d w d hd rfl
            refine ⟨(g4 d h1 h2).1, ?_, rfl⟩
            rw [(g4 d h1 h2).2]
            exact f25 d hdc hds
          · have h1 : d ∉ c :: l1 := fun z => by
              rcases List.mem_cons.mp z with w | w
              · exact hd (by rw [w]; exact hcl)
              · exact hd (h1l d w)
            have h2 : d ∉ s :: m1 := fun z => by
              rcases List.mem_cons.mp z with w | w
              · exact hd (by rw [w]; exact hsl)
              · exact hd (h2l d (hm1 d w))
            refine ⟨(g4 d h1 h2).1, ?_⟩
            rw [(g4 d h1 h2).2]
            exact f25 d (fun z => hd (by rw [z]; exact hcl)) (fun z => hd (by rw [z]; exact hsl))
theorem qt_next {ev : Nat → Nat} {a23 a24 a25 : Nat → Int32} {rt : Int32} (ok : qe_ok ev) (R : qt_R a23 a24 a25 rt ev) (hne : ∃ c, ev c ≠ 0) : ∃ r, rt = nI r ∧ r < 12 ∧ ev r ≠ 0 ∧ a23 r = nI (ev r) ∧ qe_L ev (ev r) := by
  obtain ⟨r1, r2⟩ := R
  rcases r2 with ⟨_, hz⟩ | ⟨r, l, hr, hT, hn, hm⟩
  · obtain ⟨c, hc⟩ := hne
    exact absurd (hz c) hc
  · have hrn := (hm r).mp (qt_Tc hT)
    exact ⟨r, hr, (ok r hrn).1, hrn, r1 r hrn, hrn, ⟨r, (ok r hrn).1, rfl⟩, fun c hc => qt_Tge hT c ((hm c).mpr hc)⟩
theorem qt_take {post : Int32 → St1 → Prop} {cu ch en pe td rt lk : Int32} {a1 a2 a3 a4 a5 a6 a7 a8 a9 a10 a11 a12 a13 a14 a15 a16 a17 a18 a19 a20 a21 a22 a23 a24 a25 a26 a27 : Nat → Int32} {ev : Nat → Nat} (ok : qe_ok ev) (R : qt_R a23 a24 a25 rt ev) (hne : ∃ c, ev c ≠ 0)
    (H : ∀ x rt' a24' a25' a26', qe_L ev x → qt_R a23 a24' a25' rt' (qn_u ev (x % 16) 0) → post (nI x) (cu, ch, en, pe, td, rt', lk, a1, a2, a3, a4, a5, a6, a7, a8, a9, a10, a11, a12, a13, a14, a15, a16, a17, a18, a19, a20, a21, a22, a23, a24', a25', a26', a27)) : wpX_treeTake post (cu, ch, en, pe, td, rt, lk, a1, a2, a3, a4, a5, a6, a7, a8, a9, a10, a11, a12, a13, a14, a15, a16, a17, a18, a19, a20, a21, a22, a23, a24, a25, a26, a27) := by
  obtain ⟨r, hr, hr12, hrn, hra, hL⟩ := qt_next ok R hne
  obtain ⟨r1, r2⟩ := R
  rcases r2 with ⟨_, hz⟩ | ⟨r', l, hr', hT, hn, hm⟩
  · exact absurd (hz r) hrn
  · have hr'12 := (ok r' ((hm r').mp (qt_Tc hT))).1
    have e : r' = r := qn_inj (by omega) (by omega) (by rw [← hr', hr])
    rw [e] at hT
    obtain ⟨o1, o2, o3⟩ := ok r hrn
    obtain ⟨m, hlm, hF⟩ := hT
    rw [hlm] at hn
    obtain ⟨n1, n2⟩ := List.nodup_cons.mp hn
    have hmem : ∀ c, c ∈ m ↔ ev c ≠ 0 ∧ c ≠ r := by
      intro c
      rw [← hm c, hlm, List.mem_cons]
      exact ⟨fun z => ⟨Or.inr z, fun w => n1 (by rw [← w]; exact z)⟩, fun z => z.1.resolve_left z.2⟩
    have hcl : (nI r).toNatClampNeg = r := qn_cl (by omega)
    have hlen : m.length ≤ 11 := by
      have := qt_len hn (k := 12) (fun c hc => (ok c ((hm c).mp (by rw [hlm]; exact hc))).1)
      rw [List.length_cons] at this
      omega
    subst hr
    refine And.intro (pk_in r 12 o1) (nm_r (show a23 (nI r).toNatClampNeg = nI (ev r) by rw [hcl]; exact hra) ⟨pk_in r 12 o1, nm_r (show a24 (nI r).toNatClampNeg = a24 r by rw [hcl]) ⟨m.length + 1, ?_⟩⟩)
    refine qt_take22 (ev := ev) (k := ev r) (m := 11) (P := fun c => ev c ≠ 0 ∧ c ≠ r) (by omega) (fun c hc => ⟨(ok c hc.1).1, (ok c hc.1).2.2, r1 c hc.1⟩) (fun rt' a24' a25' a26' h => H (ev r) rt' a24' a25' a26' hL ?_) (m.length + 1) 0 (a24 r) a24 a25 a26 m (fun _ => 0) (fun _ => []) (by omega) (by omega) hF n2 (fun j hj => absurd hj (by omega)) (fun i j c hi => absurd hi (by omega)) (fun j c hj => absurd hj (by omega)) (fun c => ?_)
    · rw [o2]
      refine ⟨fun c hc => ?_, ?_⟩
      · rcases qn_c ev r 0 c with ⟨y, ey⟩ | ⟨y, ey⟩ <;> rw [ey] at hc ⊢
        · exact absurd rfl hc
        · exact r1 c hc
      · rcases h with ⟨h1, h2⟩ | ⟨q, l', h1, h2, h3, h4⟩
        · refine Or.inl ⟨h1, fun c => ?_⟩
          rcases qn_c ev r 0 c with ⟨y, ey⟩ | ⟨y, ey⟩ <;> rw [ey]
          rcases Nat.eq_zero_or_pos (ev c) with w | w
          · exact w
          · exact absurd ⟨by omega, y⟩ (h2 c)
        · refine Or.inr ⟨q, l', h1, qt_Tfr (fun d hd => ⟨rfl, qn_un ((h4 d).mp hd).2⟩) (fun _ _ _ => rfl) h3 h2, h3, fun c => ?_⟩
          rw [h4 c]
          rcases qn_c ev r 0 c with ⟨y, ey⟩ | ⟨y, ey⟩ <;> rw [ey]
          · exact ⟨fun z => absurd y z.2, fun z => absurd rfl z⟩
          · exact ⟨fun z => z.1, fun z => ⟨z, y⟩⟩
    · rw [hmem c]
      exact ⟨Or.inl, fun z => z.resolve_right (fun ⟨j, hj, _⟩ => absurd hj (by omega))⟩
end
section
/-- any of the four engines: it holds the events of ev, the last that was taken was lb -/
def qq_R (e : Nat) (pe td rt lk : Int32) (a20 a21 a22 a23 a24 a25 a27 : Nat → Int32) (ev : Nat → Nat) (lb : Nat) : Prop :=
  qe_ok ev ∧ pe = nI (qe_n ev 12) ∧ ((e = 0 ∧ qh_R (qe_n ev 12) a20 ev) ∨ (e = 1 ∧ qc_R a21 a22 a23 td ev lb) ∨ (e = 2 ∧ qt_R a23 a24 a25 rt ev) ∨ (e = 3 ∧ qb_R a22 a23 a27 lk ev lb))
theorem qq_add {post : St1 → Prop} {cu ch en pe td rt lk : Int32} {a1 a2 a3 a4 a5 a6 a7 a8 a9 a10 a11 a12 a13 a14 a15 a16 a17 a18 a19 a20 a21 a22 a23 a24 a25 a26 a27 : Nat → Int32} {e E lb : Nat} {ev : Nat → Nat} (he : en = nI e) (R : qq_R e pe td rt lk a20 a21 a22 a23 a24 a25 a27 ev lb) (hE : qe_new ev E) (hlb : lb ≤ E)
    (H : ∀ pe' rt' a20' a21' a22' a23' a24' a25' a27', qq_R e pe' td rt' lk a20' a21' a22' a23' a24' a25' a27' (qn_u ev (E % 16) E) lb → post (cu, ch, en, pe', td, rt', lk, a1, a2, a3, a4, a5, a6, a7, a8, a9, a10, a11, a12, a13, a14, a15, a16, a17, a18, a19, a20', a21', a22', a23', a24', a25', a26, a27')) : wpX_addEvent post (cu, ch, en, pe, td, rt, lk, a1, a2, a3, a4, a5, a6, a7, a8, a9, a10, a11, a12, a13, a14, a15, a16, a17, a18, a19, a20, a21, a22, a23, a24, a25, a26, a27) (nI E) := by
  obtain ⟨ok, hpe, R⟩ := R
  have hE' := hE
  obtain ⟨e0, e1, e2, e3⟩ := hE'
  have hcnt : qe_n (qn_u ev (E % 16) E) 12 = qe_n ev 12 + 1 := qe_nadd e3 e0 e1
  have hle := qe_nle (qn_u ev (E % 16) E) 12
  have hp : pe + 1 = nI (qe_n (qn_u ev (E % 16) E) 12) := by rw [hcnt, hpe, nI_1]
  have ok' := qe_oku ok e1 e2
  subst he
  rcases R with ⟨h0, R⟩ | ⟨h0, R⟩ | ⟨h0, R⟩ | ⟨h0, R⟩
  · subst h0
    refine br_f (by decide) (br_f (by decide) (br_t rfl (qh_add (by omega) hpe ok hE R (fun a20' R' => nm_r hp (H _ _ _ _ _ _ _ _ _ ⟨ok', rfl, Or.inl ⟨rfl, ?_⟩⟩)))))
    rw [hcnt]; exact R'
  · subst h0
    exact br_f (by decide) (br_f (by decide) (br_f (by decide) (br_t rfl (qc_add ok hE hlb R (fun a21' a22' a23' R' => nm_r hp (H _ _ _ _ _ _ _ _ _ ⟨ok', rfl, Or.inr (Or.inl ⟨rfl, R'⟩)⟩))))))
  · subst h0
    exact br_f (by decide) (br_f (by decide) (br_f (by decide) (br_f (by decide) (br_t rfl (qt_add ok hE R (fun rt' a23' a24' a25' R' => nm_r hp (H _ _ _ _ _ _ _ _ _ ⟨ok', rfl, Or.inr (Or.inr (Or.inl ⟨rfl, R'⟩))⟩)))))))
  · subst h0
    exact br_f (by decide) (br_t (by decide) (qb_add ok hE hlb R (fun a22' a23' a27' R' => nm_r hp (H _ _ _ _ _ _ _ _ _ ⟨ok', rfl, Or.inr (Or.inr (Or.inr ⟨rfl, R'⟩))⟩))))
theorem qq_take {post : Int32 → St1 → Prop} {cu ch en pe td rt lk : Int32} {a1 a2 a3 a4 a5 a6 a7 a8 a9 a10 a11 a12 a13 a14 a15 a16 a17 a18 a19 a20 a21 a22 a23 a24 a25 a26 a27 : Nat → Int32} {e lb : Nat} {ev : Nat → Nat} (he : en = nI e) (R : qq_R e pe td rt lk a20 a21 a22 a23 a24 a25 a27 ev lb) (hne : ∃ c, ev c ≠ 0)
    (H : ∀ x pe' td' rt' lk' a20' a21' a22' a23' a24' a25' a26' a27', qe_L ev x → x < 1048576 → qq_R e pe' td' rt' lk' a20' a21' a22' a23' a24' a25' a27' (qn_u ev (x % 16) 0) x → post (nI x) (cu, ch, en, pe', td', rt', lk', a1, a2, a3, a4, a5, a6, a7, a8, a9, a10, a11, a12, a13, a14, a15, a16, a17, a18, a19, a20', a21', a22', a23', a24', a25', a26', a27')) : wpX_takeEvent post (cu, ch, en, pe, td, rt, lk, a1, a2, a3, a4, a5, a6, a7, a8, a9, a10, a11, a12, a13, a14, a15, a16, a17, a18, a19, a20, a21, a22, a23, a24, a25, a26, a27) := by
  obtain ⟨ok, hpe, R⟩ := R
  have hcnt : ∀ x, qe_L ev x → x < 1048576 ∧ qe_n (qn_u ev (x % 16) 0) 12 + 1 = qe_n ev 12 := by
    intro x hx
    obtain ⟨x0, ⟨c, hc, hcx⟩, _⟩ := hx
    obtain ⟨o1, o2, o3⟩ := ok c (by omega)
    rw [hcx] at o2 o3
    rw [o2]
    exact ⟨o3, qe_nrem (by omega) hc⟩
  have hp : ∀ x, qe_L ev x → pe - 1 = nI (qe_n (qn_u ev (x % 16) 0) 12) := by
    intro x hx
    rw [hpe, ← (hcnt x hx).2, nI_pred]
  have hpos : 0 < qe_n ev 12 := by
    obtain ⟨c, hc⟩ := hne
    exact qe_npos (ok c hc).1 hc
  have hle := qe_nle ev 12
  subst he
  rcases R with ⟨h0, R⟩ | ⟨h0, R⟩ | ⟨h0, R⟩ | ⟨h0, R⟩
  · subst h0
    obtain ⟨q, hq⟩ : ∃ q, qe_n ev 12 = q + 1 := ⟨qe_n ev 12 - 1, by omega⟩
    have hpe' := hpe
    rw [hq] at R hpe'
    refine br_f (by decide) (br_f (by decide) (br_t rfl (qh_take (by omega) hpe' ok R (fun x a20' hL R' => nm_r (hp x hL) (H x _ _ _ _ _ _ _ _ _ _ _ _ hL (hcnt x hL).1 ⟨qe_ok0 ok, rfl, Or.inl ⟨rfl, ?_⟩⟩)))))
    have := (hcnt x hL).2
    rw [show qe_n (qn_u ev (x % 16) 0) 12 = q by omega]
    exact R'
  · subst h0
    exact br_f (by decide) (br_f (by decide) (br_f (by decide) (br_t rfl (qc_take ok R hne (fun x td' a21' hL R' => nm_r (hp x hL) (H x _ _ _ _ _ _ _ _ _ _ _ _ hL (hcnt x hL).1 ⟨qe_ok0 ok, rfl, Or.inr (Or.inl ⟨rfl, R'⟩)⟩))))))
  · subst h0
    exact br_f (by decide) (br_f (by decide) (br_f (by decide) (br_f (by decide) (br_t rfl (qt_take ok R hne (fun x rt' a24' a25' a26' hL R' => nm_r (hp x hL) (H x _ _ _ _ _ _ _ _ _ _ _ _ hL (hcnt x hL).1 ⟨qe_ok0 ok, rfl, Or.inr (Or.inr (Or.inl ⟨rfl, R'⟩))⟩)))))))
  · subst h0
    exact br_f (by decide) (br_t (by decide) (qb_take ok R hne (fun x lk' a22' a23' a27' hL R' => nm_r (hp x hL) (H x _ _ _ _ _ _ _ _ _ _ _ _ hL (hcnt x hL).1 ⟨qe_ok0 ok, rfl, Or.inr (Or.inr (Or.inr ⟨rfl, R'⟩))⟩))))
theorem qq_next {post : Int32 → Prop} {cu ch en pe td rt lk : Int32} {a1 a2 a3 a4 a5 a6 a7 a8 a9 a10 a11 a12 a13 a14 a15 a16 a17 a18 a19 a20 a21 a22 a23 a24 a25 a26 a27 : Nat → Int32} {e lb : Nat} {ev : Nat → Nat} (he : en = nI e) (R : qq_R e pe td rt lk a20 a21 a22 a23 a24 a25 a27 ev lb) (hne : ∃ c, ev c ≠ 0)
    (H : ∀ x, qe_L ev x → x < 1048576 → post (nI (x / 32))) : wpX_nextTime post (cu, ch, en, pe, td, rt, lk, a1, a2, a3, a4, a5, a6, a7, a8, a9, a10, a11, a12, a13, a14, a15, a16, a17, a18, a19, a20, a21, a22, a23, a24, a25, a26, a27) := by
  obtain ⟨ok, hpe, R⟩ := R
  have hpos : 0 < qe_n ev 12 := by
    obtain ⟨c, hc⟩ := hne
    exact qe_npos (ok c hc).1 hc
  subst he
  rcases R with ⟨h0, R⟩ | ⟨h0, R⟩ | ⟨h0, R⟩ | ⟨h0, R⟩
  · subst h0
    obtain ⟨q, hq⟩ : ∃ q, qe_n ev 12 = q + 1 := ⟨qe_n ev 12 - 1, by omega⟩
    rw [hq] at R
    obtain ⟨x, hx, hL, hb⟩ := qh_next ok R
    refine br_t rfl ⟨qn_32, ?_⟩
    rw [hx, qn_d32 (by omega)]
    exact H x hL hb
  · subst h0
    obtain ⟨L, R⟩ := R
    refine br_f (by decide) (br_t rfl (qc_next ok R hne (fun c l hc hL hl => ?_)))
    obtain ⟨o1, o2, o3⟩ := ok c hc
    refine ⟨pk_in c 12 o1, qn_32, ?_⟩
    rw [qn_cl (show c < 1048576 by omega), (R.2.2.2.1 c hc).1, qn_d32 (by omega)]
    exact H (ev c) hL o3
  · subst h0
    obtain ⟨r, hr, hr12, hrn, hra, hL⟩ := qt_next ok R hne
    obtain ⟨o1, o2, o3⟩ := ok r hrn
    subst hr
    refine br_f (by decide) (br_f (by decide) (br_f (by decide) ⟨pk_in r 12 hr12, qn_32, ?_⟩))
    rw [qn_cl (show r < 1048576 by omega), hra, qn_d32 (by omega)]
    exact H (ev r) hL o3
  · subst h0
    obtain ⟨L, Q, h1, h2, h3⟩ := R
    refine br_f (by decide) (br_f (by decide) (br_t rfl (qb_first ok Q h2 hne (fun b hb hl hlow => qb_least ok Q h2 h3 hb hl hlow (fun c hc hcn hL => ?_)))))
    obtain ⟨o1, o2, o3⟩ := ok c hcn
    refine ⟨pk_in c 12 o1, qn_32, ?_⟩
    rw [qn_cl (show c < 1048576 by omega), (h3 c hcn).1, qn_d32 (by omega)]
    exact H (ev c) hL o3
theorem qq_start {post : St1 → Prop} {cu ch en pe td rt lk : Int32} {a1 a2 a3 a4 a5 a6 a7 a8 a9 a10 a11 a12 a13 a14 a15 a16 a17 a18 a19 a20 a21 a22 a23 a24 a25 a26 a27 : Nat → Int32} (H : ∀ a21' a27', (∀ d, d < 16 → a21' d = -1) → (∀ b, b < 24 → a27' b = -1) → post (cu, ch, en, 0, 0, -1, 0, a1, a2, a3, a4, a5, a6, a7, a8, a9, a10, a11, a12, a13, a14, a15, a16, a17, a18, a19, a20, a21', a22, a23, a24, a25, a26, a27')) : wpX_startQueue post (cu, ch, en, pe, td, rt, lk, a1, a2, a3, a4, a5, a6, a7, a8, a9, a10, a11, a12, a13, a14, a15, a16, a17, a18, a19, a20, a21, a22, a23, a24, a25, a26, a27) := by
  refine pk_loop (fun n i s => wX_startQueue_22 post cu ch en 0 0 (-1) 0 n (nI i) a1 a2 a3 a4 a5 a6 a7 a8 a9 a10 a11 a12 a13 a14 a15 a16 a17 a18 a19 a20 s a22 a23 a24 a25 a26 a27) (fun i s => ∀ d, d < i → s d = -1) 16 0 a21 (by omega) (fun d hd => absurd hd (by omega)) ?_ ?_
  · intro n s hs
    refine br_t (Int32.le_refl _) ?_
    refine pk_loop (fun n i t => wX_startQueue_43 post cu ch en 0 0 (-1) 0 n (nI i) a1 a2 a3 a4 a5 a6 a7 a8 a9 a10 a11 a12 a13 a14 a15 a16 a17 a18 a19 a20 s a22 a23 a24 a25 a26 t) (fun i t => ∀ d, d < i → t d = -1) 24 0 a27 (by omega) (fun d hd => absurd hd (by omega)) ?_ ?_
    · intro m t ht
      exact br_t (Int32.le_refl _) (H s t hs ht)
    · intro m i t hi ht hw
      refine br_f (nI_ge (b := 24) hi (by decide)) ⟨pk_in i 24 hi, nm_e (nm_r (nI_1 i) (hw _ (fun d hd => ?_)))⟩
      rw [qn_cl (show i < 1048576 by omega)]
      by_cases e : d = i
      · rw [e, pk_us]
      · rw [pk_un e]; exact ht d (by omega)
  · intro m i t hi ht hw
    refine br_f (nI_ge (b := 16) hi (by decide)) ⟨pk_in i 16 hi, nm_e (nm_r (nI_1 i) (hw _ (fun d hd => ?_)))⟩
    rw [qn_cl (show i < 1048576 by omega)]
    by_cases e : d = i
    · rw [e, pk_us]
    · rw [pk_un e]; exact ht d (by omega)
theorem qq_zero {e : Nat} {a20 a21 a22 a23 a24 a25 a27 : Nat → Int32} (he : e < 4) (h21 : ∀ d, d < 16 → a21 d = -1) (h27 : ∀ b, b < 24 → a27 b = -1) : qq_R e 0 0 (-1) 0 a20 a21 a22 a23 a24 a25 a27 (fun _ => 0) 0 := by
  refine ⟨fun c h => absurd rfl h, rfl, ?_⟩
  rcases Nat.lt_or_ge e 1 with z | z
  · refine Or.inl ⟨by omega, fun _ => 0, fun i hi => absurd hi (Nat.not_lt_zero i), ⟨fun i hi => absurd hi ?_, fun c hc => absurd rfl hc, fun i j hi => absurd hi ?_⟩, fun i _ hi => absurd hi ?_⟩
    · exact Nat.not_lt_zero i
    · exact Nat.not_lt_zero i
    · exact Nat.not_lt_zero i
  · rcases Nat.lt_or_ge e 2 with y | y
    · refine Or.inr (Or.inl ⟨by omega, fun _ => [], fun d hd => h21 d hd, fun d hd c => ⟨fun h => absurd h List.not_mem_nil, fun h => absurd rfl h.1⟩, fun d hd => List.Pairwise.nil, fun c h => absurd rfl h, rfl, by decide⟩)
    · rcases Nat.lt_or_ge e 3 with x | x
      · exact Or.inr (Or.inr (Or.inl ⟨by omega, fun c h => absurd rfl h, Or.inl ⟨rfl, fun _ => rfl⟩⟩))
      · exact Or.inr (Or.inr (Or.inr ⟨by omega, fun _ => [], fun b hb => ⟨h27 b hb, List.nodup_nil, fun c => ⟨fun h => absurd h List.not_mem_nil, fun h => absurd rfl h.1⟩⟩, rfl, by decide, fun c h => absurd rfl h⟩))
end
section
/-- sums -/
def qs_I (f : Nat → Int) : Nat → Int
  | 0 => 0
  | k + 1 => qs_I f k + f k
theorem qs_cg {f g : Nat → Int} : ∀ {k : Nat}, (∀ i, i < k → f i = g i) → qs_I f k = qs_I g k := by
  intro k
  induction k with
  | zero => intro _; rfl
  | succ k ih =>
    intro h
    unfold qs_I
    rw [ih (fun i hi => h i (by omega)), h k (by omega)]
theorem qs_up {f g : Nat → Int} {c : Nat} : ∀ {k : Nat}, c < k → (∀ i, i < k → i ≠ c → g i = f i) → qs_I g k = qs_I f k - f c + g c := by
  intro k
  induction k with
  | zero => intro h; omega
  | succ k ih =>
    intro hc h
    unfold qs_I
    by_cases e : c = k
    · rw [qs_cg (f := g) (g := f) (fun i hi => h i (by omega) (by omega)), e]; omega
    · rw [ih (by omega) (fun i hi hn => h i (by omega) hn), h k (by omega) (by omega)]; omega
theorem qs_app {f g : Nat → Int} {k : Nat} (h : ∀ i, i < k → g i = f i) : qs_I g (k + 1) = qs_I f k + g k := by
  show qs_I g k + g k = _
  rw [qs_cg h]
theorem qs_nn {f : Nat → Int} : ∀ {k : Nat}, (∀ i, i < k → 0 ≤ f i) → 0 ≤ qs_I f k := by
  intro k
  induction k with
  | zero => intro _; exact Int.le_refl 0
  | succ k ih =>
    intro h
    have h1 := ih (fun i hi => h i (by omega))
    have h2 := h k (by omega)
    unfold qs_I
    omega
theorem qs_le {f g : Nat → Int} : ∀ {k : Nat}, (∀ i, i < k → f i ≤ g i) → qs_I f k ≤ qs_I g k := by
  intro k
  induction k with
  | zero => intro _; exact Int.le_refl 0
  | succ k ih =>
    intro h
    have h1 := ih (fun i hi => h i (by omega))
    have h2 := h k (by omega)
    unfold qs_I
    omega
theorem qs_0 {f : Nat → Int} {k : Nat} (h : ∀ i, i < k → f i = 0) : qs_I f k = 0 := by
  induction k with
  | zero => rfl
  | succ k ih =>
    unfold qs_I
    rw [ih (fun i hi => h i (by omega)), h k (by omega)]
    rfl
theorem qs_ge {f : Nat → Int} {c : Nat} : ∀ {k : Nat}, c < k → (∀ i, i < k → 0 ≤ f i) → f c ≤ qs_I f k := by
  intro k
  induction k with
  | zero => intro h; omega
  | succ k ih =>
    intro hc h
    have h2 := h k (by omega)
    unfold qs_I
    by_cases e : c = k
    · have h1 := qs_nn (f := f) (k := k) (fun i hi => h i (by omega))
      rw [e]; omega
    · have h1 := ih (by omega) (fun i hi => h i (by omega))
      omega
theorem qs_ad {f g : Nat → Int} (k : Nat) : qs_I (fun i => f i + g i) k = qs_I f k + qs_I g k := by
  induction k with
  | zero => rfl
  | succ k ih =>
    show qs_I (fun i => f i + g i) k + (f k + g k) = (qs_I f k + f k) + (qs_I g k + g k)
    rw [ih]; omega
theorem qs_cst {f : Nat → Int} {b : Int} : ∀ {k : Nat}, (∀ i, i < k → f i ≤ b) → qs_I f k ≤ (k : Int) * b := by
  intro k
  induction k with
  | zero => intro _; unfold qs_I; simp
  | succ k ih =>
    intro h
    have h1 := ih (fun i hi => h i (by omega))
    have h2 := h k (by omega)
    unfold qs_I
    rw [Int.natCast_add, Int.add_mul]
    omega
/-- who waits, who is served, at a station -/
def qi_w (vs vo st : Nat → Nat) (s c : Nat) : Int := if st c = 1 ∧ vs (4 * c + vo c) = s then 1 else 0
def qi_b (vs vo st : Nat → Nat) (s c : Nat) : Int := if st c = 2 ∧ vs (4 * c + vo c) = s then 1 else 0
def qi_e (ls : Nat → Nat) (f : Nat → Int) (s i : Nat) : Int := if ls i = s then f i else 0
def qi_t (lt ls : Nat → Nat) (f : Nat → Int) (s t i : Nat) : Int := if lt i ≤ t then qi_e ls f s i else 0
/-- when a visit is due to join -/
def qi_x (ar vn bg : Nat → Nat) (c k : Nat) : Nat := if k = 0 then ar c else bg (4 * c + k - 1) + vn (4 * c + k - 1)
/-- a visit's share in the sum of stays -/
def qi_v (vs vn vo st jn bg : Nat → Nat) (s v : Nat) : Int :=
  if vs v = s then (if v % 4 < vo (v / 4) then (jn v : Int) - ((bg v : Int) + (vn v : Int)) else if v % 4 = vo (v / 4) ∧ (st (v / 4) = 1 ∨ st (v / 4) = 2) then (jn v : Int) else 0) else 0
def qi_k (vo st : Nat → Nat) (c : Nat) : Int := 3 * (vo c : Int) + (if st c = 1 then 1 else if st c = 2 then 2 else 0)
def qi_1 (ar vc vn : Nat → Nat) (T z ch : Nat) (vo st jn bg lv : Nat → Nat) (c : Nat) : Prop :=
  (st c = 0 ∨ st c = 1 ∨ st c = 2 ∨ st c = 3 ∨ (st c = 4 ∧ c = z)) ∧ vo c ≤ vc c ∧ (st c = 0 → vo c = 0 ∧ T ≤ ar c) ∧
  (st c = 1 → vo c < vc c ∧ jn (4 * c + vo c) = qi_x ar vn bg c (vo c) ∧ jn (4 * c + vo c) ≤ T) ∧
  (st c = 2 → vo c < vc c ∧ jn (4 * c + vo c) = qi_x ar vn bg c (vo c) ∧ jn (4 * c + vo c) ≤ bg (4 * c + vo c) ∧ bg (4 * c + vo c) ≤ T ∧ T ≤ bg (4 * c + vo c) + vn (4 * c + vo c) ∧ bg (4 * c + vo c) + vn (4 * c + vo c) ≤ 100 + 30 * ch) ∧
  (st c = 3 → vo c = vc c ∧ lv c = qi_x ar vn bg c (vc c) ∧ lv c ≤ T) ∧ (st c = 4 → qi_x ar vn bg c (vo c) = T) ∧
  (∀ k, k < vo c → jn (4 * c + k) = qi_x ar vn bg c k ∧ jn (4 * c + k) ≤ bg (4 * c + k) ∧ bg (4 * c + k) ≤ T)
def qi_G (sv : Nat → Nat) (s t ch : Nat) (lt ls : Nat → Nat) (la lw : Nat → Int) : Prop :=
  qs_I (qi_t lt ls la s t) ch - qs_I (qi_t lt ls lw s t) ch ≤ (sv s : Int) ∧ (qs_I (qi_t lt ls la s t) ch - qs_I (qi_t lt ls lw s t) ch = (sv s : Int) ∨ qs_I (qi_t lt ls lw s t) ch = 0)
def qi_D (s ch : Nat) (lt ls : Nat → Nat) (la : Nat → Int) : Int := qs_I (fun i => if ls i = s then la i * (lt i : Int) else 0) ch
def qi_L (n T : Nat) (st lv : Nat → Nat) (lt ls : Nat → Nat) (la lw : Nat → Int) (i : Nat) : Prop :=
  ls i < 4 ∧ lt i ≤ T ∧ ((la i = 1 ∧ lw i = 1) ∨ (la i = 0 ∧ lw i = -1) ∨ (la i = -1 ∧ lw i = 0)) ∧ ∃ c, c < n ∧ (st c = 3 → lt i ≤ lv c)
def qi_4 (sv vs vo st : Nat → Nat) (ch : Nat) (ls : Nat → Nat) (la lw : Nat → Int) (s : Nat) : Prop :=
  qs_I (qi_e ls la s) ch = qs_I (qi_w vs vo st s) 12 + qs_I (qi_b vs vo st s) 12 ∧ qs_I (qi_e ls lw s) ch = qs_I (qi_w vs vo st s) 12 ∧ qs_I (qi_b vs vo st s) 12 ≤ (sv s : Int)
def qi_I (n : Nat) (sv ar vc vs vn : Nat → Nat) (T z : Nat) (vo st jn bg lv : Nat → Nat) (ch : Nat) (lt ls : Nat → Nat) (la lw : Nat → Int) : Prop :=
  (∀ c, n ≤ c → st c = 3 ∧ vo c = 0) ∧ (∀ c, c < n → qi_1 ar vc vn T z ch vo st jn bg lv c) ∧ T ≤ 100 + 30 * ch ∧ (∀ i, i < ch → qi_L n T st lv lt ls la lw i) ∧ (∀ i j, i ≤ j → j < ch → lt i ≤ lt j) ∧
  (ch : Int) = qs_I (qi_k vo st) 12 ∧ (∀ s, s < 4 → qi_4 sv vs vo st ch ls la lw s) ∧ (∀ s p, s < 4 → p ≤ ch → 0 ≤ qs_I (qi_e ls lw s) p ∧ qs_I (qi_e ls lw s) p ≤ qs_I (qi_e ls la s) p) ∧
  (∀ s t, s < 4 → t < T → qi_G sv s t ch lt ls la lw) ∧ (∀ s, s < 4 → qi_D s ch lt ls la = qs_I (qi_v vs vn vo st jn bg s) 48)
/-- the configuration -/
def qf_ok (n : Nat) (sv ru ar vc vs vn : Nat → Nat) : Prop := n ≤ 12 ∧ (∀ s, s < 4 → 1 ≤ sv s ∧ sv s ≤ 3 ∧ ru s ≤ 2) ∧ (∀ c, c < n → ar c ≤ 100 ∧ vc c ≤ 4) ∧ (∀ c k, c < n → k < vc c → vs (4 * c + k) < 4 ∧ 1 ≤ vn (4 * c + k) ∧ vn (4 * c + k) ≤ 30)
theorem qi_wn (vs vo st : Nat → Nat) (s c : Nat) : 0 ≤ qi_w vs vo st s c := by unfold qi_w; split <;> omega
theorem qi_bn (vs vo st : Nat → Nat) (s c : Nat) : 0 ≤ qi_b vs vo st s c := by unfold qi_b; split <;> omega
section
variable {n : Nat} {sv ru ar vc vs vn : Nat → Nat} {T z : Nat} {vo st jn bg lv : Nat → Nat} {ch : Nat} {lt ls : Nat → Nat} {la lw : Nat → Int}
theorem qi_1fr {vo' st' jn' bg' lv' : Nat → Nat} {z' ch' c : Nat} (hv : vc c ≤ 4) (h1 : vo' c = vo c) (h2 : st' c = st c) (h3 : lv' c = lv c) (h4 : ∀ k, k < 4 → jn' (4 * c + k) = jn (4 * c + k) ∧ bg' (4 * c + k) = bg (4 * c + k)) (h5 : ch ≤ ch') (h6 : st c ≠ 4) (h : qi_1 ar vc vn T z ch vo st jn bg lv c) : qi_1 ar vc vn T z' ch' vo' st' jn' bg' lv' c := by
  obtain ⟨q1, q2, q3, q4, q5, q6, q7, q8⟩ := h
  have hx : ∀ k, k ≤ 4 → qi_x ar vn bg' c k = qi_x ar vn bg c k := by
    intro k hk
    unfold qi_x
    by_cases e : k = 0
    · rw [if_pos e, if_pos e]
    · rw [if_neg e, if_neg e, show 4 * c + k - 1 = 4 * c + (k - 1) by omega, (h4 (k - 1) (by omega)).2]
  unfold qi_1
  rw [h1, h2, h3]
  refine ⟨?_, q2, q3, fun e => ?_, fun e => ?_, fun e => ?_, fun e => absurd e h6, fun k hk => ?_⟩
  · rcases q1 with w | w | w | w | w
    · exact Or.inl w
    · exact Or.inr (Or.inl w)
    · exact Or.inr (Or.inr (Or.inl w))
    · exact Or.inr (Or.inr (Or.inr (Or.inl w)))
    · exact absurd w.1 h6
  · obtain ⟨w1, w2, w3⟩ := q4 e
    rw [(h4 (vo c) (by omega)).1, hx _ (by omega)]
    exact ⟨w1, w2, w3⟩
  · obtain ⟨w1, w2, w3, w4, w5, w6⟩ := q5 e
    rw [(h4 (vo c) (by omega)).1, (h4 (vo c) (by omega)).2, hx _ (by omega)]
    exact ⟨w1, w2, w3, w4, w5, by omega⟩
  · obtain ⟨w1, w2, w3⟩ := q6 e
    rw [hx _ (by omega)]
    exact ⟨w1, w2, w3⟩
  · obtain ⟨w1, w2, w3⟩ := q8 k hk
    rw [(h4 k (by omega)).1, (h4 k (by omega)).2, hx _ (by omega)]
    exact ⟨w1, w2, w3⟩
/-- a new row of the log: what is left to show when the customers' counts are known -/
theorem qi_log {vo' st' : Nat → Nat} {s0 : Nat} {da dw : Int} (hs0 : s0 < 4)
    (h4 : ∀ s, s < 4 → qi_4 sv vs vo st ch ls la lw s) (h5 : ∀ s p, s < 4 → p ≤ ch → 0 ≤ qs_I (qi_e ls lw s) p ∧ qs_I (qi_e ls lw s) p ≤ qs_I (qi_e ls la s) p)
    (hw : ∀ s, s < 4 → qs_I (qi_w vs vo' st' s) 12 = qs_I (qi_w vs vo st s) 12 + (if s0 = s then dw else 0))
    (hb : ∀ s, s < 4 → qs_I (qi_b vs vo' st' s) 12 = qs_I (qi_b vs vo st s) 12 + (if s0 = s then da - dw else 0) ∧ qs_I (qi_b vs vo' st' s) 12 ≤ (sv s : Int)) :
    (∀ s, s < 4 → qi_4 sv vs vo' st' (ch + 1) (qn_u ls ch s0) (qn_u la ch da) (qn_u lw ch dw) s) ∧ (∀ s p, s < 4 → p ≤ ch + 1 → 0 ≤ qs_I (qi_e (qn_u ls ch s0) (qn_u lw ch dw) s) p ∧ qs_I (qi_e (qn_u ls ch s0) (qn_u lw ch dw) s) p ≤ qs_I (qi_e (qn_u ls ch s0) (qn_u la ch da) s) p) := by
  have ex : ∀ (f : Nat → Int) (d : Int) (s i : Nat), i < ch → qi_e (qn_u ls ch s0) (qn_u f ch d) s i = qi_e ls f s i := by
    intro f d s i hi
    unfold qi_e
    rw [qn_un (by omega), qn_un (by omega)]
  have en : ∀ (f : Nat → Int) (d : Int) (s : Nat), qi_e (qn_u ls ch s0) (qn_u f ch d) s ch = if s0 = s then d else 0 := by
    intro f d s
    unfold qi_e
    rw [qn_us, qn_us]
  have sum : ∀ (f : Nat → Int) (d : Int) (s : Nat), qs_I (qi_e (qn_u ls ch s0) (qn_u f ch d) s) (ch + 1) = qs_I (qi_e ls f s) ch + (if s0 = s then d else 0) := by
    intro f d s
    rw [qs_app (ex f d s), en]
  have a4 : ∀ s, s < 4 → qi_4 sv vs vo' st' (ch + 1) (qn_u ls ch s0) (qn_u la ch da) (qn_u lw ch dw) s := by
    intro s hs
    obtain ⟨x1, x2, x3⟩ := h4 s hs
    obtain ⟨y1, y2⟩ := hb s hs
    have y3 := hw s hs
    unfold qi_4
    rw [sum, sum]
    refine ⟨?_, ?_, y2⟩
    · by_cases e : s0 = s
      · rw [if_pos e] at y1 y3 ⊢; omega
      · rw [if_neg e] at y1 y3 ⊢; omega
    · rw [x2, y3]
  refine ⟨a4, fun s p hs hp => ?_⟩
  by_cases e : p = ch + 1
  · obtain ⟨x1, x2, x3⟩ := a4 s hs
    rw [e, x1, x2]
    have n1 := qs_nn (f := qi_w vs vo' st' s) (k := 12) (fun i _ => qi_wn _ _ _ _ _)
    have n2 := qs_nn (f := qi_b vs vo' st' s) (k := 12) (fun i _ => qi_bn _ _ _ _ _)
    omega
  · rw [qs_cg (k := p) (fun i hi => ex lw dw s i (by omega)), qs_cg (k := p) (fun i hi => ex la da s i (by omega))]
    exact h5 s p hs (by omega)
theorem qi_logG {s0 : Nat} {da dw : Int} (h : ∀ s t, s < 4 → t < T → qi_G sv s t ch lt ls la lw) : ∀ s t, s < 4 → t < T → qi_G sv s t (ch + 1) (qn_u lt ch T) (qn_u ls ch s0) (qn_u la ch da) (qn_u lw ch dw) := by
  have sum : ∀ (f : Nat → Int) (d : Int) (s t : Nat), t < T → qs_I (qi_t (qn_u lt ch T) (qn_u ls ch s0) (qn_u f ch d) s t) (ch + 1) = qs_I (qi_t lt ls f s t) ch := by
    intro f d s t ht
    rw [qs_app (f := qi_t lt ls f s t) (fun i hi => ?_)]
    · unfold qi_t
      rw [qn_us, if_neg (by omega)]
      omega
    · unfold qi_t qi_e
      rw [qn_un (by omega), qn_un (by omega), qn_un (by omega)]
  intro s t hs ht
  have := h s t hs ht
  unfold qi_G at this ⊢
  rw [sum la da s t ht, sum lw dw s t ht]
  exact this
theorem qi_logD {s0 s : Nat} {da : Int} : qi_D s (ch + 1) (qn_u lt ch T) (qn_u ls ch s0) (qn_u la ch da) = qi_D s ch lt ls la + (if s0 = s then da * (T : Int) else 0) := by
  unfold qi_D
  rw [qs_app (f := fun i => if ls i = s then la i * (lt i : Int) else 0) (fun i hi => ?_)]
  · show _ + (if qn_u ls ch s0 ch = s then qn_u la ch da ch * ((qn_u lt ch T ch : Nat) : Int) else 0) = _
    rw [qn_us, qn_us, qn_us]
  · show (if qn_u ls ch s0 i = s then qn_u la ch da i * ((qn_u lt ch T i : Nat) : Int) else 0) = _
    rw [qn_un (by omega), qn_un (by omega), qn_un (by omega)]
theorem qi_logL {st' lv' : Nat → Nat} {s0 c0 : Nat} {da dw : Int} (hs0 : s0 < 4) (hc0 : c0 < n) (hst : st' c0 ≠ 3) (hd : (da = 1 ∧ dw = 1) ∨ (da = 0 ∧ dw = -1) ∨ (da = -1 ∧ dw = 0)) (hk : ∀ c, c < n → st' c = 3 → st c = 3 ∧ lv' c = lv c)
    (h : ∀ i, i < ch → qi_L n T st lv lt ls la lw i) (hs : ∀ i j, i ≤ j → j < ch → lt i ≤ lt j) :
    (∀ i, i < ch + 1 → qi_L n T st' lv' (qn_u lt ch T) (qn_u ls ch s0) (qn_u la ch da) (qn_u lw ch dw) i) ∧ (∀ i j, i ≤ j → j < ch + 1 → qn_u lt ch T i ≤ qn_u lt ch T j) := by
  constructor
  · intro i hi
    unfold qi_L
    by_cases e : i = ch
    · rw [e, qn_us, qn_us, qn_us, qn_us]
      exact ⟨hs0, Nat.le_refl _, hd, c0, hc0, fun w => absurd w hst⟩
    · rw [qn_un e, qn_un e, qn_un e, qn_un e]
      obtain ⟨x1, x2, x3, c, hc, x4⟩ := h i (by omega)
      refine ⟨x1, x2, x3, c, hc, fun w => ?_⟩
      obtain ⟨y1, y2⟩ := hk c hc w
      rw [y2]; exact x4 y1
  · intro i j hij hj
    by_cases e : j = ch
    · rw [e, qn_us]
      by_cases e2 : i = ch
      · rw [e2, qn_us]; exact Nat.le_refl _
      · rw [qn_un e2]
        exact (h i (by omega)).2.1
    · rw [qn_un e, qn_un (by omega)]
      exact hs i j hij (by omega)
end
end
section
section
variable {n : Nat} {sv ru ar vc vs vn : Nat → Nat} {T z : Nat} {vo st jn bg lv : Nat → Nat} {ch : Nat} {lt ls : Nat → Nat} {la lw : Nat → Int}
theorem qi_n4 (ok : qf_ok n sv ru ar vc vs vn) (I : qi_I n sv ar vc vs vn T 99 vo st jn bg lv ch lt ls la lw) (c : Nat) : st c ≠ 4 := by
  intro e
  rcases Nat.lt_or_ge c n with h | h
  · rcases (I.2.1 c h).1 with w | w | w | w | w
    · omega
    · omega
    · omega
    · omega
    · have := ok.1
      omega
  · have := (I.1 c h).1
    omega
theorem qi_wup {st' vo' : Nat → Nat} {c s : Nat} (hc : c < 12) (h : ∀ d, d ≠ c → st' d = st d ∧ vo' d = vo d) : qs_I (qi_w vs vo' st' s) 12 = qs_I (qi_w vs vo st s) 12 - qi_w vs vo st s c + qi_w vs vo' st' s c := by
  refine qs_up hc (fun i _ hi => ?_)
  unfold qi_w
  rw [(h i hi).1, (h i hi).2]
theorem qi_bup {st' vo' : Nat → Nat} {c s : Nat} (hc : c < 12) (h : ∀ d, d ≠ c → st' d = st d ∧ vo' d = vo d) : qs_I (qi_b vs vo' st' s) 12 = qs_I (qi_b vs vo st s) 12 - qi_b vs vo st s c + qi_b vs vo' st' s c := by
  refine qs_up hc (fun i _ hi => ?_)
  unfold qi_b
  rw [(h i hi).1, (h i hi).2]
theorem qi_kup {st' vo' : Nat → Nat} {c : Nat} (hc : c < 12) (h : ∀ d, d ≠ c → st' d = st d ∧ vo' d = vo d) : qs_I (qi_k vo' st') 12 = qs_I (qi_k vo st) 12 - qi_k vo st c + qi_k vo' st' c := by
  refine qs_up hc (fun i _ hi => ?_)
  unfold qi_k
  rw [(h i hi).1, (h i hi).2]
/-- an arrival's event is taken -/
theorem qi_arr {c : Nat} (ok : qf_ok n sv ru ar vc vs vn) (I : qi_I n sv ar vc vs vn T 99 vo st jn bg lv ch lt ls la lw) (hc : c < n) (h0 : st c = 0) (hT : ar c = T) : qi_I n sv ar vc vs vn T c vo (qn_u st c 4) jn bg lv ch lt ls la lw := by
  have n4 := qi_n4 ok I
  obtain ⟨i1, i2, i3, i4, i5, i6, i7, i8, i9, i10⟩ := I
  have hn := ok.1
  obtain ⟨q1, q2, q3, _⟩ := i2 c hc
  have hne : ∀ d, d ≠ c → qn_u st c 4 d = st d ∧ vo d = vo d := fun d hd => ⟨qn_un hd, rfl⟩
  have hw : ∀ s, qs_I (qi_w vs vo (qn_u st c 4) s) 12 = qs_I (qi_w vs vo st s) 12 := by
    intro s
    rw [qi_wup (by omega) hne]
    unfold qi_w
    rw [qn_us, if_neg (fun w => absurd w.1 (by omega)), if_neg (fun w => absurd w.1 (by omega))]
    omega
  have hb : ∀ s, qs_I (qi_b vs vo (qn_u st c 4) s) 12 = qs_I (qi_b vs vo st s) 12 := by
    intro s
    rw [qi_bup (by omega) hne]
    unfold qi_b
    rw [qn_us, if_neg (fun w => absurd w.1 (by omega)), if_neg (fun w => absurd w.1 (by omega))]
    omega
  refine ⟨fun d hd => ?_, fun d hd => ?_, i3, fun i hi => ?_, i5, ?_, fun s hs => ?_, i8, i9, fun s hs => ?_⟩
  · rw [qn_un (by omega)]; exact i1 d hd
  · by_cases e : d = c
    · rw [e]
      unfold qi_1
      rw [qn_us]
      refine ⟨Or.inr (Or.inr (Or.inr (Or.inr ⟨rfl, rfl⟩))), q2, fun w => absurd w (by omega), fun w => absurd w (by omega), fun w => absurd w (by omega), fun w => absurd w (by omega), fun _ => ?_, fun k hk => absurd hk ?_⟩
      · unfold qi_x
        rw [if_pos (q3 h0).1]; exact hT
      · rw [(q3 h0).1]; omega
    · exact qi_1fr (ok.2.2.1 d hd).2 rfl (qn_un e) rfl (fun k _ => ⟨rfl, rfl⟩) (Nat.le_refl _) (n4 d) (i2 d hd)
  · obtain ⟨x1, x2, x3, d, hd, x4⟩ := i4 i hi
    refine ⟨x1, x2, x3, d, hd, fun w => x4 ?_⟩
    by_cases e : d = c
    · rw [e, qn_us] at w; omega
    · rw [qn_un e] at w; exact w
  · rw [i6, qi_kup (st := st) (by omega) hne]
    unfold qi_k
    rw [qn_us, if_neg (by omega), if_neg (by omega), if_neg (by omega), if_neg (by omega)]
    omega
  · unfold qi_4
    rw [hw, hb]
    exact i7 s hs
  · rw [i10 s hs]
    refine qs_cg (fun v _ => ?_)
    unfold qi_v
    by_cases e : v / 4 = c
    · rw [e, qn_us, h0]
      simp
    · rw [qn_un e]
/-- a customer leaves a station -/
theorem qi_dep {c : Nat} (ok : qf_ok n sv ru ar vc vs vn) (I : qi_I n sv ar vc vs vn T 99 vo st jn bg lv ch lt ls la lw) (hc : c < n) (h2 : st c = 2) (hT : bg (4 * c + vo c) + vn (4 * c + vo c) = T) :
    qi_I n sv ar vc vs vn T c (qn_u vo c (vo c + 1)) (qn_u st c 4) jn bg lv (ch + 1) (qn_u lt ch T) (qn_u ls ch (vs (4 * c + vo c))) (qn_u la ch (-1)) (qn_u lw ch 0) := by
  have n4 := qi_n4 ok I
  obtain ⟨i1, i2, i3, i4, i5, i6, i7, i8, i9, i10⟩ := I
  have hn := ok.1
  obtain ⟨q1, q2, q3, q4, q5, q6, q7, q8⟩ := i2 c hc
  obtain ⟨y1, y2, y3, y4, y5, y6⟩ := q5 h2
  have hvc := (ok.2.2.1 c hc).2
  have hs0 := (ok.2.2.2 c (vo c) hc y1).1
  have hne : ∀ d, d ≠ c → qn_u st c 4 d = st d ∧ qn_u vo c (vo c + 1) d = vo d := fun d hd => ⟨qn_un hd, qn_un hd⟩
  have hw : ∀ s, s < 4 → qs_I (qi_w vs (qn_u vo c (vo c + 1)) (qn_u st c 4) s) 12 = qs_I (qi_w vs vo st s) 12 + (if vs (4 * c + vo c) = s then 0 else 0) := by
    intro s _
    rw [qi_wup (st := st) (vo := vo) (by omega) hne]
    unfold qi_w
    rw [qn_us, if_neg (fun w => absurd w.1 (by omega)), if_neg (fun w => absurd w.1 (by omega)), ite_self]
    omega
  have hb : ∀ s, s < 4 → qs_I (qi_b vs (qn_u vo c (vo c + 1)) (qn_u st c 4) s) 12 = qs_I (qi_b vs vo st s) 12 + (if vs (4 * c + vo c) = s then -1 - 0 else 0) ∧ qs_I (qi_b vs (qn_u vo c (vo c + 1)) (qn_u st c 4) s) 12 ≤ (sv s : Int) := by
    intro s hs
    have hle := (i7 s hs).2.2
    have e1 : qi_b vs (qn_u vo c (vo c + 1)) (qn_u st c 4) s c = 0 := by
      unfold qi_b
      rw [qn_us, if_neg (fun w => absurd w.1 (by omega))]
    have e2 : qi_b vs vo st s c = if vs (4 * c + vo c) = s then 1 else 0 := by
      unfold qi_b
      rw [h2]
      simp
    rw [qi_bup (st := st) (vo := vo) (by omega) hne, e1, e2]
    by_cases e : vs (4 * c + vo c) = s
    · rw [if_pos e, if_pos e]; omega
    · rw [if_neg e, if_neg e]; omega
  obtain ⟨g7, g8⟩ := qi_log hs0 i7 i8 hw hb
  obtain ⟨g4, g5⟩ := qi_logL (st' := qn_u st c 4) (lv' := lv) (T := T) (da := -1) (dw := 0) hs0 hc (by rw [qn_us]; omega) (Or.inr (Or.inr ⟨rfl, rfl⟩)) (fun d _ w => by
    by_cases e : d = c
    · rw [e, qn_us] at w; omega
    · rw [qn_un e] at w; exact ⟨w, rfl⟩) i4 i5
  refine ⟨fun d hd => ?_, fun d hd => ?_, by omega, g4, g5, ?_, g7, g8, qi_logG i9, fun s hs => ?_⟩
  · rw [qn_un (by omega), qn_un (by omega)]; exact i1 d hd
  · by_cases e : d = c
    · rw [e]
      unfold qi_1
      rw [qn_us, qn_us]
      refine ⟨Or.inr (Or.inr (Or.inr (Or.inr ⟨rfl, rfl⟩))), y1, fun w => absurd w (by omega), fun w => absurd w (by omega), fun w => absurd w (by omega), fun w => absurd w (by omega), fun _ => ?_, fun k hk => ?_⟩
      · unfold qi_x
        rw [if_neg (by omega), show 4 * c + (vo c + 1) - 1 = 4 * c + vo c by omega]
        exact hT
      · by_cases ek : k = vo c
        · rw [ek]; exact ⟨y2, y3, y4⟩
        · exact q8 k (by omega)
    · exact qi_1fr (ok.2.2.1 d hd).2 (qn_un e) (qn_un e) rfl (fun k _ => ⟨rfl, rfl⟩) (by omega) (n4 d) (i2 d hd)
  · rw [Int.natCast_add, i6, qi_kup (st := st) (vo := vo) (by omega) hne]
    unfold qi_k
    rw [qn_us, qn_us, h2]
    simp
    omega
  · rw [qi_logD, i10 s hs, qs_up (f := qi_v vs vn vo st jn bg s) (g := qi_v vs vn (qn_u vo c (vo c + 1)) (qn_u st c 4) jn bg s) (c := 4 * c + vo c) (by omega) (fun v hv hne => ?_)]
    · have ed : (4 * c + vo c) / 4 = c := by omega
      have em : (4 * c + vo c) % 4 = vo c := by omega
      have v1 : qi_v vs vn vo st jn bg s (4 * c + vo c) = if vs (4 * c + vo c) = s then (jn (4 * c + vo c) : Int) else 0 := by
        unfold qi_v
        rw [ed, em, h2]
        simp
      have v2 : qi_v vs vn (qn_u vo c (vo c + 1)) (qn_u st c 4) jn bg s (4 * c + vo c) = if vs (4 * c + vo c) = s then (jn (4 * c + vo c) : Int) - ((bg (4 * c + vo c) : Int) + (vn (4 * c + vo c) : Int)) else 0 := by
        unfold qi_v
        rw [ed, em, qn_us, if_pos (show vo c < vo c + 1 by omega)]
      rw [v1, v2]
      by_cases e : vs (4 * c + vo c) = s
      · rw [if_pos e, if_pos e, if_pos e, ← hT]
        omega
      · rw [if_neg e, if_neg e, if_neg e]
        omega
    · unfold qi_v
      by_cases e : v / 4 = c
      · have hm : v % 4 ≠ vo c := by omega
        rw [e, qn_us, qn_us, h2]
        by_cases es : vs v = s
        · rw [if_pos es, if_pos es]
          by_cases e3 : v % 4 < vo c
          · rw [if_pos e3, if_pos (show v % 4 < vo c + 1 by omega)]
          · rw [if_neg e3, if_neg (show ¬ v % 4 < vo c + 1 by omega), if_neg (show ¬ (v % 4 = vo c + 1 ∧ (4 = 1 ∨ 4 = 2)) by omega), if_neg (show ¬ (v % 4 = vo c ∧ (2 = 1 ∨ 2 = 2)) by omega)]
        · rw [if_neg es, if_neg es]
      · rw [qn_un e, qn_un e]
/-- a customer joins a station -/
theorem qi_join {c : Nat} (ok : qf_ok n sv ru ar vc vs vn) (I : qi_I n sv ar vc vs vn T c vo st jn bg lv ch lt ls la lw) (hc : c < n) (h4 : st c = 4) (hv : vo c < vc c) :
    qi_I n sv ar vc vs vn T 99 vo (qn_u st c 1) (qn_u jn (4 * c + vo c) T) bg lv (ch + 1) (qn_u lt ch T) (qn_u ls ch (vs (4 * c + vo c))) (qn_u la ch 1) (qn_u lw ch 1) := by
  obtain ⟨i1, i2, i3, i4, i5, i6, i7, i8, i9, i10⟩ := I
  have hn := ok.1
  obtain ⟨q1, q2, q3, q4, q5, q6, q7, q8⟩ := i2 c hc
  have hvc := (ok.2.2.1 c hc).2
  have hs0 := (ok.2.2.2 c (vo c) hc hv).1
  have n4 : ∀ d, d < n → d ≠ c → st d ≠ 4 := by
    intro d hd hdc w
    rcases (i2 d hd).1 with y | y | y | y | y
    · omega
    · omega
    · omega
    · omega
    · exact hdc y.2
  have hne : ∀ d, d ≠ c → qn_u st c 1 d = st d ∧ vo d = vo d := fun d hd => ⟨qn_un hd, rfl⟩
  have hw : ∀ s, s < 4 → qs_I (qi_w vs vo (qn_u st c 1) s) 12 = qs_I (qi_w vs vo st s) 12 + (if vs (4 * c + vo c) = s then 1 else 0) := by
    intro s _
    have e1 : qi_w vs vo (qn_u st c 1) s c = if vs (4 * c + vo c) = s then 1 else 0 := by
      unfold qi_w
      rw [qn_us]
      simp
    have e2 : qi_w vs vo st s c = 0 := by
      unfold qi_w
      rw [if_neg (fun w => absurd w.1 (by omega))]
    rw [qi_wup (st := st) (vo := vo) (by omega) hne, e1, e2]
    omega
  have hb : ∀ s, s < 4 → qs_I (qi_b vs vo (qn_u st c 1) s) 12 = qs_I (qi_b vs vo st s) 12 + (if vs (4 * c + vo c) = s then 1 - 1 else 0) ∧ qs_I (qi_b vs vo (qn_u st c 1) s) 12 ≤ (sv s : Int) := by
    intro s hs
    have hle := (i7 s hs).2.2
    have e1 : qi_b vs vo (qn_u st c 1) s c = 0 := by
      unfold qi_b
      rw [qn_us, if_neg (fun w => absurd w.1 (by omega))]
    have e2 : qi_b vs vo st s c = 0 := by
      unfold qi_b
      rw [if_neg (fun w => absurd w.1 (by omega))]
    rw [qi_bup (st := st) (vo := vo) (by omega) hne, e1, e2]
    by_cases e : vs (4 * c + vo c) = s
    · rw [if_pos e]; omega
    · rw [if_neg e]; omega
  obtain ⟨g7, g8⟩ := qi_log hs0 i7 i8 hw hb
  obtain ⟨g4, g5⟩ := qi_logL (st' := qn_u st c 1) (lv' := lv) (T := T) (da := 1) (dw := 1) hs0 hc (by rw [qn_us]; omega) (Or.inl ⟨rfl, rfl⟩) (fun d _ w => by
    by_cases e : d = c
    · rw [e, qn_us] at w; omega
    · rw [qn_un e] at w; exact ⟨w, rfl⟩) i4 i5
  refine ⟨fun d hd => ?_, fun d hd => ?_, by omega, g4, g5, ?_, g7, g8, qi_logG i9, fun s hs => ?_⟩
  · rw [qn_un (by omega)]; exact i1 d hd
  · by_cases e : d = c
    · rw [e]
      unfold qi_1
      rw [qn_us, qn_us]
      refine ⟨Or.inr (Or.inl rfl), q2, fun w => absurd w (by omega), fun _ => ⟨hv, (q7 h4).symm, Nat.le_refl _⟩, fun w => absurd w (by omega), fun w => absurd w (by omega), fun w => absurd w (by omega), fun k hk => ?_⟩
      rw [qn_un (by omega)]
      exact q8 k hk
    · exact qi_1fr (ok.2.2.1 d hd).2 rfl (qn_un e) rfl (fun k _ => ⟨qn_un (by omega), rfl⟩) (by omega) (n4 d hd e) (i2 d hd)
  · rw [Int.natCast_add, i6, qi_kup (st := st) (vo := vo) (by omega) hne]
    unfold qi_k
    rw [qn_us, h4]
    simp
    omega
  · rw [qi_logD, i10 s hs, qs_up (f := qi_v vs vn vo st jn bg s) (g := qi_v vs vn vo (qn_u st c 1) (qn_u jn (4 * c + vo c) T) bg s) (c := 4 * c + vo c) (by omega) (fun v hv' hne => ?_)]
    · have ed : (4 * c + vo c) / 4 = c := by omega
      have em : (4 * c + vo c) % 4 = vo c := by omega
      have v1 : qi_v vs vn vo st jn bg s (4 * c + vo c) = 0 := by
        unfold qi_v
        rw [ed, em, h4]
        simp
      have v2 : qi_v vs vn vo (qn_u st c 1) (qn_u jn (4 * c + vo c) T) bg s (4 * c + vo c) = if vs (4 * c + vo c) = s then (T : Int) else 0 := by
        unfold qi_v
        rw [ed, em, qn_us, qn_us]
        simp
      rw [v1, v2]
      by_cases e : vs (4 * c + vo c) = s
      · rw [if_pos e, if_pos e]
        omega
      · rw [if_neg e, if_neg e]
        omega
    · unfold qi_v
      rw [qn_un hne]
      by_cases e : v / 4 = c
      · have hm : v % 4 ≠ vo c := by omega
        rw [e, qn_us, h4]
        by_cases es : vs v = s
        · rw [if_pos es, if_pos es]
          by_cases e3 : v % 4 < vo c
          · rw [if_pos e3, if_pos e3]
          · rw [if_neg e3, if_neg e3, if_neg (show ¬ (v % 4 = vo c ∧ (1 = 1 ∨ 1 = 2)) by omega), if_neg (show ¬ (v % 4 = vo c ∧ (4 = 1 ∨ 4 = 2)) by omega)]
        · rw [if_neg es, if_neg es]
      · rw [qn_un e]
/-- a customer leaves for good -/
theorem qi_gone {c : Nat} (ok : qf_ok n sv ru ar vc vs vn) (I : qi_I n sv ar vc vs vn T c vo st jn bg lv ch lt ls la lw) (hc : c < n) (h4 : st c = 4) (hv : ¬ vo c < vc c) :
    qi_I n sv ar vc vs vn T 99 vo (qn_u st c 3) jn bg (qn_u lv c T) ch lt ls la lw := by
  obtain ⟨i1, i2, i3, i4, i5, i6, i7, i8, i9, i10⟩ := I
  have hn := ok.1
  obtain ⟨q1, q2, q3, q4, q5, q6, q7, q8⟩ := i2 c hc
  have n4 : ∀ d, d < n → d ≠ c → st d ≠ 4 := by
    intro d hd hdc w
    rcases (i2 d hd).1 with y | y | y | y | y
    · omega
    · omega
    · omega
    · omega
    · exact hdc y.2
  have hne : ∀ d, d ≠ c → qn_u st c 3 d = st d ∧ vo d = vo d := fun d hd => ⟨qn_un hd, rfl⟩
  have hw : ∀ s, qs_I (qi_w vs vo (qn_u st c 3) s) 12 = qs_I (qi_w vs vo st s) 12 := by
    intro s
    rw [qi_wup (by omega) hne]
    unfold qi_w
    rw [qn_us, if_neg (fun w => absurd w.1 (by omega)), if_neg (fun w => absurd w.1 (by omega))]
    omega
  have hb : ∀ s, qs_I (qi_b vs vo (qn_u st c 3) s) 12 = qs_I (qi_b vs vo st s) 12 := by
    intro s
    rw [qi_bup (by omega) hne]
    unfold qi_b
    rw [qn_us, if_neg (fun w => absurd w.1 (by omega)), if_neg (fun w => absurd w.1 (by omega))]
    omega
  refine ⟨fun d hd => ?_, fun d hd => ?_, i3, fun i hi => ?_, i5, ?_, fun s hs => ?_, i8, i9, fun s hs => ?_⟩
  · rw [qn_un (by omega)]; exact i1 d hd
  · by_cases e : d = c
    · rw [e]
      unfold qi_1
      rw [qn_us, qn_us]
      have hvv : vo c = vc c := by omega
      refine ⟨Or.inr (Or.inr (Or.inr (Or.inl rfl))), q2, fun w => absurd w (by omega), fun w => absurd w (by omega), fun w => absurd w (by omega), fun _ => ⟨hvv, ?_, Nat.le_refl _⟩, fun w => absurd w (by omega), q8⟩
      rw [← hvv]; exact (q7 h4).symm
    · exact qi_1fr (ok.2.2.1 d hd).2 rfl (qn_un e) (qn_un e) (fun k _ => ⟨rfl, rfl⟩) (Nat.le_refl _) (n4 d hd e) (i2 d hd)
  · obtain ⟨x1, x2, x3, d, hd, x4⟩ := i4 i hi
    refine ⟨x1, x2, x3, d, hd, fun w => ?_⟩
    by_cases e : d = c
    · rw [e, qn_us]; exact x2
    · rw [qn_un e] at w ⊢; exact x4 w
  · rw [i6, qi_kup (st := st) (by omega) hne]
    unfold qi_k
    rw [qn_us, if_neg (by omega), if_neg (by omega), if_neg (by omega), if_neg (by omega)]
    omega
  · unfold qi_4
    rw [hw, hb]
    exact i7 s hs
  · rw [i10 s hs]
    refine qs_cg (fun v _ => ?_)
    unfold qi_v
    by_cases e : v / 4 = c
    · rw [e, qn_us, h4]
      simp
    · rw [qn_un e]
/-- a customer is served -/
theorem qi_srv {c : Nat} (ok : qf_ok n sv ru ar vc vs vn) (I : qi_I n sv ar vc vs vn T 99 vo st jn bg lv ch lt ls la lw) (hc : c < n) (h1 : st c = 1) (hf : qs_I (qi_b vs vo st (vs (4 * c + vo c))) 12 < (sv (vs (4 * c + vo c)) : Int)) :
    qi_I n sv ar vc vs vn T 99 vo (qn_u st c 2) jn (qn_u bg (4 * c + vo c) T) lv (ch + 1) (qn_u lt ch T) (qn_u ls ch (vs (4 * c + vo c))) (qn_u la ch 0) (qn_u lw ch (-1)) := by
  have n4 := qi_n4 ok I
  obtain ⟨i1, i2, i3, i4, i5, i6, i7, i8, i9, i10⟩ := I
  have hn := ok.1
  obtain ⟨q1, q2, q3, q4, q5, q6, q7, q8⟩ := i2 c hc
  obtain ⟨y1, y2, y3⟩ := q4 h1
  have hvc := (ok.2.2.1 c hc).2
  obtain ⟨hs0, hn1, hn2⟩ := ok.2.2.2 c (vo c) hc y1
  have hne : ∀ d, d ≠ c → qn_u st c 2 d = st d ∧ vo d = vo d := fun d hd => ⟨qn_un hd, rfl⟩
  have hw : ∀ s, s < 4 → qs_I (qi_w vs vo (qn_u st c 2) s) 12 = qs_I (qi_w vs vo st s) 12 + (if vs (4 * c + vo c) = s then -1 else 0) := by
    intro s _
    have e1 : qi_w vs vo (qn_u st c 2) s c = 0 := by
      unfold qi_w
      rw [qn_us, if_neg (fun w => absurd w.1 (by omega))]
    have e2 : qi_w vs vo st s c = if vs (4 * c + vo c) = s then 1 else 0 := by
      unfold qi_w
      rw [h1]
      simp
    rw [qi_wup (st := st) (vo := vo) (by omega) hne, e1, e2]
    by_cases e : vs (4 * c + vo c) = s
    · rw [if_pos e, if_pos e]; omega
    · rw [if_neg e, if_neg e]; omega
  have hb : ∀ s, s < 4 → qs_I (qi_b vs vo (qn_u st c 2) s) 12 = qs_I (qi_b vs vo st s) 12 + (if vs (4 * c + vo c) = s then 0 - (-1) else 0) ∧ qs_I (qi_b vs vo (qn_u st c 2) s) 12 ≤ (sv s : Int) := by
    intro s hs
    have hle := (i7 s hs).2.2
    have e1 : qi_b vs vo (qn_u st c 2) s c = if vs (4 * c + vo c) = s then 1 else 0 := by
      unfold qi_b
      rw [qn_us]
      simp
    have e2 : qi_b vs vo st s c = 0 := by
      unfold qi_b
      rw [if_neg (fun w => absurd w.1 (by omega))]
    rw [qi_bup (st := st) (vo := vo) (by omega) hne, e1, e2]
    by_cases e : vs (4 * c + vo c) = s
    · rw [e] at hf
      rw [if_pos e, if_pos e]; omega
    · rw [if_neg e, if_neg e]; omega
  obtain ⟨g7, g8⟩ := qi_log hs0 i7 i8 hw hb
  obtain ⟨g4, g5⟩ := qi_logL (st' := qn_u st c 2) (lv' := lv) (T := T) (da := 0) (dw := -1) hs0 hc (by rw [qn_us]; omega) (Or.inr (Or.inl ⟨rfl, rfl⟩)) (fun d _ w => by
    by_cases e : d = c
    · rw [e, qn_us] at w; omega
    · rw [qn_un e] at w; exact ⟨w, rfl⟩) i4 i5
  have hx : ∀ k, k ≤ vo c → qi_x ar vn (qn_u bg (4 * c + vo c) T) c k = qi_x ar vn bg c k := by
    intro k hk
    unfold qi_x
    by_cases e : k = 0
    · rw [if_pos e, if_pos e]
    · rw [if_neg e, if_neg e, qn_un (by omega)]
  refine ⟨fun d hd => ?_, fun d hd => ?_, by omega, g4, g5, ?_, g7, g8, qi_logG i9, fun s hs => ?_⟩
  · rw [qn_un (by omega)]; exact i1 d hd
  · by_cases e : d = c
    · rw [e]
      unfold qi_1
      rw [qn_us, qn_us, hx _ (Nat.le_refl _)]
      refine ⟨Or.inr (Or.inr (Or.inl rfl)), q2, fun w => absurd w (by omega), fun w => absurd w (by omega), fun _ => ⟨y1, y2, y3, Nat.le_refl _, by omega, by omega⟩, fun w => absurd w (by omega), fun w => absurd w (by omega), fun k hk => ?_⟩
      rw [qn_un (by omega), hx k (by omega)]
      exact q8 k hk
    · exact qi_1fr (ok.2.2.1 d hd).2 rfl (qn_un e) rfl (fun k _ => ⟨rfl, qn_un (by omega)⟩) (by omega) (n4 d) (i2 d hd)
  · rw [Int.natCast_add, i6, qi_kup (st := st) (vo := vo) (by omega) hne]
    unfold qi_k
    rw [qn_us, h1]
    simp
    omega
  · rw [qi_logD, i10 s hs, show (if vs (4 * c + vo c) = s then (0 : Int) * (T : Int) else 0) = 0 by rw [Int.zero_mul, ite_self], Int.add_zero]
    refine qs_cg (fun v hv' => ?_)
    unfold qi_v
    by_cases e : v / 4 = c
    · rw [e, qn_us, h1]
      by_cases e3 : v % 4 < vo c
      · rw [if_pos e3, if_pos e3, qn_un (by omega)]
      · rw [if_neg e3, if_neg e3]
        simp
    · rw [qn_un e, qn_un (by omega)]
/-- time goes on -/
theorem qi_tick {T' : Nat} (ok : qf_ok n sv ru ar vc vs vn) (I : qi_I n sv ar vc vs vn T 99 vo st jn bg lv ch lt ls la lw) (hK : ∀ s, s < 4 → qs_I (qi_b vs vo st s) 12 = (sv s : Int) ∨ qs_I (qi_w vs vo st s) 12 = 0) (h1 : T ≤ T') (h2 : T' ≤ 100 + 30 * ch) (h3 : ∀ c, c < n → st c = 0 → T' ≤ ar c) (h4 : ∀ c, c < n → st c = 2 → T' ≤ bg (4 * c + vo c) + vn (4 * c + vo c)) :
    qi_I n sv ar vc vs vn T' 99 vo st jn bg lv ch lt ls la lw := by
  have n4 := qi_n4 ok I
  obtain ⟨i1, i2, i3, i4, i5, i6, i7, i8, i9, i10⟩ := I
  refine ⟨i1, fun c hc => ?_, h2, fun i hi => ?_, i5, i6, i7, i8, fun s t hs ht => ?_, i10⟩
  · obtain ⟨q1, q2, q3, q4, q5, q6, q7, q8⟩ := i2 c hc
    refine ⟨q1, q2, fun e => ⟨(q3 e).1, h3 c hc e⟩, fun e => ?_, fun e => ?_, fun e => ?_, fun e => absurd e (n4 c), fun k hk => ?_⟩
    · obtain ⟨w1, w2, w3⟩ := q4 e
      exact ⟨w1, w2, by omega⟩
    · obtain ⟨w1, w2, w3, w4, w5, w6⟩ := q5 e
      exact ⟨w1, w2, w3, by omega, h4 c hc e, w6⟩
    · obtain ⟨w1, w2, w3⟩ := q6 e
      exact ⟨w1, w2, by omega⟩
    · obtain ⟨w1, w2, w3⟩ := q8 k hk
      exact ⟨w1, w2, by omega⟩
  · obtain ⟨x1, x2, x3, x4⟩ := i4 i hi
    exact ⟨x1, by omega, x3, x4⟩
  · rcases Nat.lt_or_ge t T with w | w
    · exact i9 s t hs w
    · have e : ∀ f : Nat → Int, qs_I (qi_t lt ls f s t) ch = qs_I (qi_e ls f s) ch := by
        intro f
        refine qs_cg (fun i hi => ?_)
        unfold qi_t
        have := (i4 i hi).2.1
        rw [if_pos (by omega)]
      obtain ⟨x1, x2, x3⟩ := i7 s hs
      unfold qi_G
      rw [e, e, x1, x2]
      rcases hK s hs with y | y
      · omega
      · omega
end
end
section
/-- integers as Java ints -/
def qn_I (x : Int) : Int32 := Int32.ofInt x
theorem qn_In (n : Nat) : qn_I (n : Int) = nI n := Int32.ofInt_eq_ofNat
theorem qn_Ia (a b : Int) : qn_I a + qn_I b = qn_I (a + b) := (Int32.ofInt_add a b).symm
theorem qn_Is (a b : Int) : qn_I a - qn_I b = qn_I (a - b) := (Int32.ofInt_sub a b).symm
theorem qn_Im (a b : Int) : qn_I a * qn_I b = qn_I (a * b) := (Int32.ofInt_mul a b).symm
theorem qn_It {a : Int} (h1 : -1073741824 ≤ a) (h2 : a < 1073741824) : (qn_I a).toInt = a := Int32.toInt_ofInt_of_le (by omega) (by omega)
theorem qn_Ile {a b : Int} (h1 : -1073741824 ≤ a) (h2 : a < 1073741824) (h3 : -1073741824 ≤ b) (h4 : b < 1073741824) : qn_I a ≤ qn_I b ↔ a ≤ b := by
  rw [Int32.le_iff_toInt_le, qn_It h1 h2, qn_It h3 h4]
theorem qn_Ilt {a b : Int} (h1 : -1073741824 ≤ a) (h2 : a < 1073741824) (h3 : -1073741824 ≤ b) (h4 : b < 1073741824) : qn_I a < qn_I b ↔ a < b := by
  rw [Int32.lt_iff_toInt_lt, qn_It h1 h2, qn_It h3 h4]
theorem qn_Ieq {a b : Int} (h1 : -1073741824 ≤ a) (h2 : a < 1073741824) (h3 : -1073741824 ≤ b) (h4 : b < 1073741824) : qn_I a = qn_I b ↔ a = b := by
  rw [← Int32.toInt_inj, qn_It h1 h2, qn_It h3 h4]
/-- bits -/
def qz_t (x : Int32) (i : Nat) : Bool := x.toBitVec.getLsbD i
theorem qz_ext {x y : Int32} (h : ∀ i, i < 32 → qz_t x i = qz_t y i) : x = y := Int32.toBitVec_inj.mp (BitVec.eq_of_getLsbD_eq (fun i hi => h i hi))
theorem qz_or (x y : Int32) (i : Nat) : qz_t (x ||| y) i = (qz_t x i || qz_t y i) := by unfold qz_t; rw [Int32.toBitVec_or, BitVec.getLsbD_or]
theorem qz_and (x y : Int32) (i : Nat) : qz_t (x &&& y) i = (qz_t x i && qz_t y i) := by unfold qz_t; rw [Int32.toBitVec_and, BitVec.getLsbD_and]
theorem qz_xor (x y : Int32) (i : Nat) : qz_t (x ^^^ y) i = (qz_t x i ^^ qz_t y i) := by unfold qz_t; rw [Int32.toBitVec_xor, BitVec.getLsbD_xor]
theorem qz_m1 : ∀ i, i < 32 → qz_t (-1) i = true := by decide +kernel
theorem qz_1 : ∀ i, i < 32 → qz_t 1 i = decide (i = 0) := by decide +kernel
theorem qz_0 (i : Nat) : qz_t 0 i = false := by unfold qz_t; simp
theorem qz_sl : ∀ n, n < 32 → ((nI n &&& 31).toBitVec.smod 32).toNat = n := by decide +kernel
theorem qz_shl (n : Nat) (hn : n < 32) (x : Int32) {i : Nat} (hi : i < 32) : qz_t (x <<< (nI n &&& 31)) i = (decide (n ≤ i) && qz_t x (i - n)) := by
  unfold qz_t
  rw [Int32.toBitVec_shiftLeft]
  show (x.toBitVec <<< ((nI n &&& 31).toBitVec.smod 32).toNat).getLsbD i = _
  rw [qz_sl n hn, BitVec.getLsbD_shiftLeft]
  by_cases h : n ≤ i
  · simp [hi, h, Nat.not_lt.mpr h]
  · simp [hi, h, Nat.lt_of_not_le h]
theorem qz_shr (n : Nat) (hn : n < 32) (x : Int32) {i : Nat} (hi : i < 32) : qz_t (x >>> (nI n &&& 31)) i = if n + i < 32 then qz_t x (n + i) else qz_t x 31 := by
  unfold qz_t
  rw [Int32.toBitVec_shiftRight]
  show (x.toBitVec.sshiftRight ((nI n &&& 31).toBitVec.smod 32).toNat).getLsbD i = _
  rw [qz_sl n hn, BitVec.getLsbD_sshiftRight, BitVec.msb_eq_getLsbD_last]
  simp [hi]
theorem qz_bit {c i : Nat} (hc : c < 32) (hi : i < 32) : qz_t ((1 : Int32) <<< (nI c &&& 31)) i = decide (i = c) := by
  rw [qz_shl c hc 1 hi, qz_1 (i - c) (by omega), ← Bool.decide_and]
  exact decide_eq_decide.mpr (by omega)
theorem qz_tst (x : Int32) {c : Nat} (hc : c < 32) : ((x >>> (nI c &&& 31)) &&& 1) = 0 ↔ qz_t x c = false := by
  constructor
  · intro h
    have h1 : qz_t ((x >>> (nI c &&& 31)) &&& 1) 0 = qz_t 0 0 := by rw [h]
    rw [qz_and, qz_shr c hc x (by omega), qz_0, if_pos (by omega), qz_1 0 (by omega), Nat.add_zero] at h1
    simp at h1
    exact h1
  · intro h
    refine qz_ext (fun i hi => ?_)
    rw [qz_and, qz_0, qz_1 i hi]
    by_cases e : i = 0
    · rw [e, qz_shr c hc x (by omega), if_pos (by omega), Nat.add_zero, h]; rfl
    · rw [decide_eq_false e, Bool.and_false]
/-- the model of a run: visits done, status, times, log -/
abbrev qm_M : Type := (Nat → Nat) × (Nat → Nat) × (Nat → Nat) × (Nat → Nat) × (Nat → Nat) × Nat × (Nat → Nat) × (Nat → Nat) × (Nat → Int) × (Nat → Int)
def qm_arr : qm_M → Nat → qm_M
  | (vo, st, jn, bg, lv, ch, lt, ls, la, lw), c => (vo, qn_u st c 4, jn, bg, lv, ch, lt, ls, la, lw)
def qm_dep (vs : Nat → Nat) : qm_M → Nat → Nat → qm_M
  | (vo, st, jn, bg, lv, ch, lt, ls, la, lw), c, T => (qn_u vo c (vo c + 1), qn_u st c 4, jn, bg, lv, ch + 1, qn_u lt ch T, qn_u ls ch (vs (4 * c + vo c)), qn_u la ch (-1), qn_u lw ch 0)
def qm_go (vc vs : Nat → Nat) : qm_M → Nat → Nat → qm_M
  | (vo, st, jn, bg, lv, ch, lt, ls, la, lw), c, T => if vo c < vc c then (vo, qn_u st c 1, qn_u jn (4 * c + vo c) T, bg, lv, ch + 1, qn_u lt ch T, qn_u ls ch (vs (4 * c + vo c)), qn_u la ch 1, qn_u lw ch 1) else (vo, qn_u st c 3, jn, bg, qn_u lv c T, ch, lt, ls, la, lw)
def qm_srv (vs : Nat → Nat) : qm_M → Nat → Nat → qm_M
  | (vo, st, jn, bg, lv, ch, lt, ls, la, lw), c, T => (vo, qn_u st c 2, jn, qn_u bg (4 * c + vo c) T, lv, ch + 1, qn_u lt ch T, qn_u ls ch (vs (4 * c + vo c)), qn_u la ch 0, qn_u lw ch (-1))
def qm_hd (vc vs : Nat → Nat) (m : qm_M) (E T : Nat) : qm_M := if E % 32 < 16 then qm_go vc vs (qm_dep vs m (E % 16) T) (E % 16) T else qm_go vc vs (qm_arr m (E % 16)) (E % 16) T
def qi_ev (ar vn vo st bg : Nat → Nat) (c : Nat) : Nat := if st c = 0 then 32 * ar c + 16 + c else if st c = 2 then 32 * (bg (4 * c + vo c) + vn (4 * c + vo c)) + c else 0
def qm_ev (ar vn : Nat → Nat) : qm_M → Nat → Nat
  | (vo, st, _, bg, _, _, _, _, _, _) => qi_ev ar vn vo st bg
/-- is c served before d -/
def qm_bf (ru vn vo jn : Nat → Nat) (s c d : Nat) : Bool := if ru s = 1 then decide (jn (4 * d + vo d) ≤ jn (4 * c + vo c)) else if ru s = 2 ∧ vn (4 * c + vo c) ≠ vn (4 * d + vo d) then decide (vn (4 * c + vo c) < vn (4 * d + vo d)) else decide (jn (4 * c + vo c) < jn (4 * d + vo d))
def qm_chs (ru vs vn vo st jn : Nat → Nat) (s : Nat) : Nat → Option Nat
  | 0 => none
  | k + 1 => if st k = 1 ∧ vs (4 * k + vo k) = s then (match qm_chs ru vs vn vo st jn s k with
      | none => some k
      | some d => if qm_bf ru vn vo jn s k d = true then some k else some d) else qm_chs ru vs vn vo st jn s k
def qm_pick (sv ru vs vn : Nat → Nat) : qm_M → Nat → Option Nat
  | (vo, st, jn, _, _, _, _, _, _, _), s => if qs_I (qi_b vs vo st s) 12 < (sv s : Int) then qm_chs ru vs vn vo st jn s 12 else none
def qm_sv (sv ru vs vn : Nat → Nat) (s T : Nat) : Nat → qm_M → qm_M
  | 0, m => m
  | k + 1, m => match qm_pick sv ru vs vn m s with
    | none => m
    | some c => qm_sv sv ru vs vn s T k (qm_srv vs m c T)
def qm_in (ar vc vs vn : Nat → Nat) (T : Nat) : Nat → qm_M → qm_M
  | 0, m => m
  | k + 1, m => if qe_m (qm_ev ar vn m) 12 = 0 then m else if qe_m (qm_ev ar vn m) 12 / 32 = T then qm_in ar vc vs vn T k (qm_hd vc vs m (qe_m (qm_ev ar vn m) 12) T) else m
def qm_all (sv ru vs vn : Nat → Nat) (T : Nat) : Nat → qm_M → qm_M
  | 0, m => m
  | s + 1, m => qm_sv sv ru vs vn s T 12 (qm_all sv ru vs vn T s m)
def qm_out (sv ru ar vc vs vn : Nat → Nat) : Nat → qm_M → qm_M
  | 0, m => m
  | k + 1, m => if qe_m (qm_ev ar vn m) 12 = 0 then m else qm_out sv ru ar vc vs vn k (qm_all sv ru vs vn (qe_m (qm_ev ar vn m) 12 / 32) 4 (qm_in ar vc vs vn (qe_m (qm_ev ar vn m) 12 / 32) 64 m))
def qm_0 (n : Nat) : qm_M := (fun _ => 0, fun c => if c < n then 0 else 3, fun _ => 0, fun _ => 0, fun _ => 0, 0, fun _ => 0, fun _ => 0, fun _ => 0, fun _ => 0)
theorem qm_sex (n : Nat) (sv ru ar vc vs vn : Nat → Nat) : ∃ m, m = qm_out sv ru ar vc vs vn 64 (qm_0 n) := ⟨_, rfl⟩
/-- what comes out; chosen, so that nothing unfolds it -/
noncomputable def qm_sim (n : Nat) (sv ru ar vc vs vn : Nat → Nat) : qm_M := Classical.choose (qm_sex n sv ru ar vc vs vn)
theorem qm_seq (n : Nat) (sv ru ar vc vs vn : Nat → Nat) : qm_sim n sv ru ar vc vs vn = qm_out sv ru ar vc vs vn 64 (qm_0 n) := Classical.choose_spec (qm_sex n sv ru ar vc vs vn)
/-- the arrays match the model -/
def qr_R (n : Nat) (sv vs : Nat → Nat) (vo st jn bg lv : Nat → Nat) (k : Nat) (lt ls : Nat → Nat) (la lw : Nat → Int) (ch : Int32) (a7 a8 a9 a13 a14 a15 a16 a17 a18 a19 : Nat → Int32) : Prop :=
  ch = nI k ∧ (∀ c, c < n → a17 c = nI (vo c)) ∧ (∀ s i, s < 4 → i < 32 → qz_t (a18 s) i = decide (st i = 1 ∧ vs (4 * i + vo i) = s)) ∧
  (∀ s, s < 4 → ∃ f : Nat, f ≤ 3 ∧ a19 s = nI f ∧ (f : Int) + qs_I (qi_b vs vo st s) 12 = (sv s : Int)) ∧
  (∀ c k, c < n → (k < vo c ∨ (k = vo c ∧ (st c = 1 ∨ st c = 2))) → a7 (4 * c + k) = nI (jn (4 * c + k))) ∧
  (∀ c k, c < n → (k < vo c ∨ (k = vo c ∧ st c = 2)) → a8 (4 * c + k) = nI (bg (4 * c + k))) ∧
  (∀ c, c < n → st c = 3 → a9 c = nI (lv c)) ∧
  (∀ i, i < k → a13 i = nI (lt i) ∧ a14 i = nI (ls i) ∧ a15 i = qn_I (la i) ∧ a16 i = qn_I (lw i))
def qr_J (n : Nat) (sv vs : Nat → Nat) (m : qm_M) (ch : Int32) (a7 a8 a9 a13 a14 a15 a16 a17 a18 a19 : Nat → Int32) : Prop := match m with
  | (vo, st, jn, bg, lv, k, lt, ls, la, lw) => qr_R n sv vs vo st jn bg lv k lt ls la lw ch a7 a8 a9 a13 a14 a15 a16 a17 a18 a19
def qi_J (n : Nat) (sv ar vc vs vn : Nat → Nat) (T z : Nat) (m : qm_M) : Prop := match m with
  | (vo, st, jn, bg, lv, k, lt, ls, la, lw) => qi_I n sv ar vc vs vn T z vo st jn bg lv k lt ls la lw
/-- the configuration in the arrays -/
def qf_R (n : Nat) (sv ru ar vc vs vn : Nat → Nat) (cu : Int32) (a1 a2 a3 a4 a5 a6 : Nat → Int32) : Prop :=
  cu = nI n ∧ (∀ s, s < 4 → a1 s = nI (sv s) ∧ a2 s = nI (ru s)) ∧ (∀ c, c < n → a3 c = nI (ar c) ∧ a4 c = nI (vc c)) ∧ (∀ c k, c < n → k < vc c → a5 (4 * c + k) = nI (vs (4 * c + k)) ∧ a6 (4 * c + k) = nI (vn (4 * c + k)))
end
section
theorem qn_t4 {c k : Nat} : nI c * 4 + nI k = nI (4 * c + k) := by
  rw [show (4 : Int32) = nI 4 from rfl, pk_mul, nI_add, Nat.mul_comm]
theorem qn_b0 : (0 : Int32).toInt8.toInt32 = qn_I 0 := by decide
theorem qn_b1 : (1 : Int32).toInt8.toInt32 = qn_I 1 := by decide
theorem qn_bm1 : (-1 : Int32).toInt8.toInt32 = qn_I (-1) := by decide
section
variable {n : Nat} {sv ru ar vc vs vn : Nat → Nat} {T z : Nat} {vo st jn bg lv : Nat → Nat} {k : Nat} {lt ls : Nat → Nat} {la lw : Nat → Int}
theorem qi_ch (ok : qf_ok n sv ru ar vc vs vn) (I : qi_I n sv ar vc vs vn T z vo st jn bg lv k lt ls la lw) : k ≤ 144 := by
  obtain ⟨i1, i2, i3, i4, i5, i6, _⟩ := I
  have h := qs_cst (f := qi_k vo st) (b := 12) (k := 12) (fun c _ => by
    unfold qi_k
    rcases Nat.lt_or_ge c n with w | w
    · obtain ⟨q1, q2, q3, q4, q5, q6, q7, q8⟩ := i2 c w
      have hv := (ok.2.2.1 c w).2
      by_cases e1 : st c = 1
      · have := (q4 e1).1
        rw [if_pos e1]; omega
      · by_cases e2 : st c = 2
        · have := (q5 e2).1
          rw [if_neg e1, if_pos e2]; omega
        · rw [if_neg e1, if_neg e2]; omega
    · obtain ⟨w1, w2⟩ := i1 c w
      rw [w1, w2]; simp)
  rw [← i6] at h
  omega
theorem qi_T (ok : qf_ok n sv ru ar vc vs vn) (I : qi_I n sv ar vc vs vn T z vo st jn bg lv k lt ls la lw) : T ≤ 4420 := by
  have h := qi_ch ok I
  have := I.2.2.1
  omega
theorem qr_log {a13 a14 a15 a16 : Nat → Int32} {s0 : Nat} {da dw : Int} (h : ∀ i, i < k → a13 i = nI (lt i) ∧ a14 i = nI (ls i) ∧ a15 i = qn_I (la i) ∧ a16 i = qn_I (lw i)) :
    ∀ i, i < k + 1 → upd a13 k (nI T) i = nI (qn_u lt k T i) ∧ upd a14 k (nI s0) i = nI (qn_u ls k s0 i) ∧ upd a15 k (qn_I da) i = qn_I (qn_u la k da i) ∧ upd a16 k (qn_I dw) i = qn_I (qn_u lw k dw i) := by
  intro i hi
  by_cases e : i = k
  · rw [e, pk_us, pk_us, pk_us, pk_us, qn_us, qn_us, qn_us, qn_us]
    exact ⟨rfl, rfl, rfl, rfl⟩
  · rw [pk_un e, pk_un e, pk_un e, pk_un e, qn_un e, qn_un e, qn_un e, qn_un e]
    exact h i (by omega)
theorem qr_arr {ch : Int32} {a7 a8 a9 a13 a14 a15 a16 a17 a18 a19 : Nat → Int32} {c : Nat} (hn : n ≤ 12) (hc : c < n) (h0 : st c = 0) (R : qr_R n sv vs vo st jn bg lv k lt ls la lw ch a7 a8 a9 a13 a14 a15 a16 a17 a18 a19) :
    qr_R n sv vs vo (qn_u st c 4) jn bg lv k lt ls la lw ch a7 a8 a9 a13 a14 a15 a16 a17 a18 a19 := by
  obtain ⟨r1, r2, r3, r4, r5, r6, r7, r8⟩ := R
  refine ⟨r1, r2, fun s i hs hi => ?_, fun s hs => ?_, fun d j hd h => r5 d j hd ?_, fun d j hd h => r6 d j hd ?_, fun d hd h => r7 d hd ?_, r8⟩
  · rw [r3 s i hs hi]
    by_cases e : i = c
    · rw [e, qn_us, h0]; simp
    · rw [qn_un e]
  · rw [qi_bup (st := st) (st' := qn_u st c 4) (vo := vo) (vo' := vo) (c := c) (by omega) (fun d hd => ⟨qn_un hd, rfl⟩)]
    obtain ⟨f, f1, f2, f3⟩ := r4 s hs
    refine ⟨f, f1, f2, ?_⟩
    unfold qi_b at f3 ⊢
    rw [qn_us, if_neg (fun w => absurd w.1 (by omega)), if_neg (fun w => absurd w.1 (by omega))]
    omega
  · by_cases e : d = c
    · rw [e, qn_us] at h
      rw [e]; omega
    · rw [qn_un e] at h; exact h
  · by_cases e : d = c
    · rw [e, qn_us] at h
      rw [e]; omega
    · rw [qn_un e] at h; exact h
  · by_cases e : d = c
    · rw [e, qn_us] at h; omega
    · rw [qn_un e] at h; exact h
theorem qr_join {ch : Int32} {a7 a8 a9 a13 a14 a15 a16 a17 a18 a19 : Nat → Int32} {c : Nat} (hn : n ≤ 12) (hc : c < n) (h4 : st c = 4) (hv : vo c < 4) (hvo : ∀ d, d < n → vo d ≤ 4 ∧ ((st d = 1 ∨ st d = 2) → vo d < 4)) (hs0 : vs (4 * c + vo c) < 4) (R : qr_R n sv vs vo st jn bg lv k lt ls la lw ch a7 a8 a9 a13 a14 a15 a16 a17 a18 a19) :
    qr_R n sv vs vo (qn_u st c 1) (qn_u jn (4 * c + vo c) T) bg lv (k + 1) (qn_u lt k T) (qn_u ls k (vs (4 * c + vo c))) (qn_u la k 1) (qn_u lw k 1) (nI (k + 1)) (upd a7 (4 * c + vo c) (nI T)) a8 a9 (upd a13 k (nI T)) (upd a14 k (nI (vs (4 * c + vo c)))) (upd a15 k (qn_I 1)) (upd a16 k (qn_I 1)) a17 (upd a18 (vs (4 * c + vo c)) (a18 (vs (4 * c + vo c)) ||| ((1 : Int32) <<< (nI c &&& 31)))) a19 := by
  obtain ⟨r1, r2, r3, r4, r5, r6, r7, r8⟩ := R
  refine ⟨rfl, r2, fun s i hs hi => ?_, fun s hs => ?_, fun d j hd h => ?_, fun d j hd h => r6 d j hd ?_, fun d hd h => r7 d hd ?_, qr_log r8⟩
  · by_cases es : s = vs (4 * c + vo c)
    · rw [es, pk_us, qz_or, r3 _ i hs0 hi, qz_bit (by omega) hi]
      by_cases e : i = c
      · rw [e, qn_us, h4]; simp
      · rw [qn_un e]; simp [e]
    · rw [pk_un es, r3 s i hs hi]
      by_cases e : i = c
      · rw [e, qn_us, h4]
        simp
        exact fun w => es w.symm
      · rw [qn_un e]
  · rw [qi_bup (st := st) (st' := qn_u st c 1) (vo := vo) (vo' := vo) (c := c) (by omega) (fun d hd => ⟨qn_un hd, rfl⟩)]
    obtain ⟨f, f1, f2, f3⟩ := r4 s hs
    refine ⟨f, f1, f2, ?_⟩
    unfold qi_b at f3 ⊢
    rw [qn_us, if_neg (fun w => absurd w.1 (by omega)), if_neg (fun w => absurd w.1 (by omega))]
    omega
  · have hd4 := hvo d hd
    by_cases e : d = c
    · rw [e, qn_us] at h
      rw [e]
      by_cases ej : j = vo c
      · rw [ej, pk_us, qn_us]
      · rw [pk_un (by omega), qn_un (by omega)]
        exact r5 c j hc (Or.inl (by omega))
    · rw [qn_un e] at h
      rw [pk_un (by omega), qn_un (by omega)]
      exact r5 d j hd h
  · by_cases e : d = c
    · rw [e, qn_us] at h
      rw [e]; omega
    · rw [qn_un e] at h; exact h
  · by_cases e : d = c
    · rw [e, qn_us] at h; omega
    · rw [qn_un e] at h; exact h
theorem qr_gone {ch : Int32} {a7 a8 a9 a13 a14 a15 a16 a17 a18 a19 : Nat → Int32} {c : Nat} (hn : n ≤ 12) (hc : c < n) (h4 : st c = 4) (R : qr_R n sv vs vo st jn bg lv k lt ls la lw ch a7 a8 a9 a13 a14 a15 a16 a17 a18 a19) :
    qr_R n sv vs vo (qn_u st c 3) jn bg (qn_u lv c T) k lt ls la lw ch a7 a8 (upd a9 c (nI T)) a13 a14 a15 a16 a17 a18 a19 := by
  obtain ⟨r1, r2, r3, r4, r5, r6, r7, r8⟩ := R
  refine ⟨r1, r2, fun s i hs hi => ?_, fun s hs => ?_, fun d j hd h => r5 d j hd ?_, fun d j hd h => r6 d j hd ?_, fun d hd h => ?_, r8⟩
  · rw [r3 s i hs hi]
    by_cases e : i = c
    · rw [e, qn_us, h4]; simp
    · rw [qn_un e]
  · rw [qi_bup (st := st) (st' := qn_u st c 3) (vo := vo) (vo' := vo) (c := c) (by omega) (fun d hd => ⟨qn_un hd, rfl⟩)]
    obtain ⟨f, f1, f2, f3⟩ := r4 s hs
    refine ⟨f, f1, f2, ?_⟩
    unfold qi_b at f3 ⊢
    rw [qn_us, if_neg (fun w => absurd w.1 (by omega)), if_neg (fun w => absurd w.1 (by omega))]
    omega
  · by_cases e : d = c
    · rw [e, qn_us] at h
      rw [e]; omega
    · rw [qn_un e] at h; exact h
  · by_cases e : d = c
    · rw [e, qn_us] at h
      rw [e]; omega
    · rw [qn_un e] at h; exact h
  · by_cases e : d = c
    · rw [e, pk_us, qn_us]
    · rw [qn_un e] at h
      rw [pk_un e, qn_un e]
      exact r7 d hd h
theorem qr_dep {ch : Int32} {a7 a8 a9 a13 a14 a15 a16 a17 a18 a19 : Nat → Int32} {c f : Nat} (hn : n ≤ 12) (hc : c < n) (h2 : st c = 2) (hs0 : vs (4 * c + vo c) < 4) (hf : a19 (vs (4 * c + vo c)) = nI f) (hf2 : (f : Int) + qs_I (qi_b vs vo st (vs (4 * c + vo c))) 12 = (sv (vs (4 * c + vo c)) : Int)) (hf3 : f ≤ 2) (R : qr_R n sv vs vo st jn bg lv k lt ls la lw ch a7 a8 a9 a13 a14 a15 a16 a17 a18 a19) :
    qr_R n sv vs (qn_u vo c (vo c + 1)) (qn_u st c 4) jn bg lv (k + 1) (qn_u lt k T) (qn_u ls k (vs (4 * c + vo c))) (qn_u la k (-1)) (qn_u lw k 0) (nI (k + 1)) a7 a8 a9 (upd a13 k (nI T)) (upd a14 k (nI (vs (4 * c + vo c)))) (upd a15 k (qn_I (-1))) (upd a16 k (qn_I 0)) (upd a17 c (nI (vo c + 1))) a18 (upd a19 (vs (4 * c + vo c)) (nI (f + 1))) := by
  obtain ⟨r1, r2, r3, r4, r5, r6, r7, r8⟩ := R
  refine ⟨rfl, fun d hd => ?_, fun s i hs hi => ?_, fun s hs => ?_, fun d j hd h => r5 d j hd ?_, fun d j hd h => r6 d j hd ?_, fun d hd h => r7 d hd ?_, qr_log r8⟩
  · by_cases e : d = c
    · rw [e, pk_us, qn_us]
    · rw [pk_un e, qn_un e]; exact r2 d hd
  · rw [r3 s i hs hi]
    by_cases e : i = c
    · rw [e, qn_us, h2]; simp
    · rw [qn_un e, qn_un e]
  · rw [qi_bup (st := st) (st' := qn_u st c 4) (vo := vo) (vo' := qn_u vo c (vo c + 1)) (c := c) (by omega) (fun d hd => ⟨qn_un hd, qn_un hd⟩)]
    have e1 : qi_b vs (qn_u vo c (vo c + 1)) (qn_u st c 4) s c = 0 := by
      unfold qi_b
      rw [qn_us, if_neg (fun w => absurd w.1 (by omega))]
    rw [e1]
    by_cases es : s = vs (4 * c + vo c)
    · refine ⟨f + 1, by omega, by rw [es, pk_us], ?_⟩
      have e2 : qi_b vs vo st s c = 1 := by
        unfold qi_b
        rw [if_pos ⟨h2, es.symm⟩]
      rw [e2, es]
      omega
    · obtain ⟨f', g1, g2, g3⟩ := r4 s hs
      refine ⟨f', g1, by rw [pk_un es]; exact g2, ?_⟩
      have e2 : qi_b vs vo st s c = 0 := by
        unfold qi_b
        rw [if_neg (fun w => es w.2.symm)]
      rw [e2]
      omega
  · by_cases e : d = c
    · rw [e, qn_us, qn_us] at h
      rw [e]; omega
    · rw [qn_un e, qn_un e] at h; exact h
  · by_cases e : d = c
    · rw [e, qn_us, qn_us] at h
      rw [e]; omega
    · rw [qn_un e, qn_un e] at h; exact h
  · by_cases e : d = c
    · rw [e, qn_us] at h; omega
    · rw [qn_un e] at h; exact h
theorem qr_srv {ch : Int32} {a7 a8 a9 a13 a14 a15 a16 a17 a18 a19 : Nat → Int32} {c f : Nat} (hn : n ≤ 12) (hc : c < n) (h1 : st c = 1) (hv : vo c < 4) (hvo : ∀ d, d < n → vo d ≤ 4 ∧ ((st d = 1 ∨ st d = 2) → vo d < 4)) (hs0 : vs (4 * c + vo c) < 4) (hf : a19 (vs (4 * c + vo c)) = nI f) (hf2 : (f : Int) + qs_I (qi_b vs vo st (vs (4 * c + vo c))) 12 = (sv (vs (4 * c + vo c)) : Int)) (hf3 : f ≤ 3) (hf4 : 0 < f) (R : qr_R n sv vs vo st jn bg lv k lt ls la lw ch a7 a8 a9 a13 a14 a15 a16 a17 a18 a19) :
    qr_R n sv vs vo (qn_u st c 2) jn (qn_u bg (4 * c + vo c) T) lv (k + 1) (qn_u lt k T) (qn_u ls k (vs (4 * c + vo c))) (qn_u la k 0) (qn_u lw k (-1)) (nI (k + 1)) a7 (upd a8 (4 * c + vo c) (nI T)) a9 (upd a13 k (nI T)) (upd a14 k (nI (vs (4 * c + vo c)))) (upd a15 k (qn_I 0)) (upd a16 k (qn_I (-1))) a17 (upd a18 (vs (4 * c + vo c)) (a18 (vs (4 * c + vo c)) &&& (((1 : Int32) <<< (nI c &&& 31)) ^^^ (-1)))) (upd a19 (vs (4 * c + vo c)) (nI (f - 1))) := by
  obtain ⟨r1, r2, r3, r4, r5, r6, r7, r8⟩ := R
  refine ⟨rfl, r2, fun s i hs hi => ?_, fun s hs => ?_, fun d j hd h => r5 d j hd ?_, fun d j hd h => ?_, fun d hd h => r7 d hd ?_, qr_log r8⟩
  · by_cases es : s = vs (4 * c + vo c)
    · rw [es, pk_us, qz_and, qz_xor, r3 _ i hs0 hi, qz_bit (by omega) hi, qz_m1 i hi]
      by_cases e : i = c
      · rw [e, qn_us]; simp
      · rw [qn_un e]; simp [e]
    · rw [pk_un es, r3 s i hs hi]
      by_cases e : i = c
      · rw [e, qn_us, h1]
        simp
        exact fun w => es w.symm
      · rw [qn_un e]
  · rw [qi_bup (st := st) (st' := qn_u st c 2) (vo := vo) (vo' := vo) (c := c) (by omega) (fun d hd => ⟨qn_un hd, rfl⟩)]
    have e2 : qi_b vs vo st s c = 0 := by
      unfold qi_b
      rw [if_neg (fun w => absurd w.1 (by omega))]
    rw [e2]
    by_cases es : s = vs (4 * c + vo c)
    · refine ⟨f - 1, by omega, by rw [es, pk_us], ?_⟩
      have e1 : qi_b vs vo (qn_u st c 2) s c = 1 := by
        unfold qi_b
        rw [qn_us, if_pos ⟨rfl, es.symm⟩]
      rw [e1, es]
      omega
    · obtain ⟨f', g1, g2, g3⟩ := r4 s hs
      refine ⟨f', g1, by rw [pk_un es]; exact g2, ?_⟩
      have e1 : qi_b vs vo (qn_u st c 2) s c = 0 := by
        unfold qi_b
        rw [if_neg (fun w => es w.2.symm)]
      rw [e1]
      omega
  · by_cases e : d = c
    · rw [e, qn_us] at h
      rw [e]; omega
    · rw [qn_un e] at h; exact h
  · have hd4 := hvo d hd
    by_cases e : d = c
    · rw [e, qn_us] at h
      rw [e]
      by_cases ej : j = vo c
      · rw [ej, pk_us, qn_us]
      · rw [pk_un (by omega), qn_un (by omega)]
        exact r6 c j hc (Or.inl (by omega))
    · rw [qn_un e] at h
      rw [pk_un (by omega), qn_un (by omega)]
      exact r6 d j hd h
  · by_cases e : d = c
    · rw [e, qn_us] at h; omega
    · rw [qn_un e] at h; exact h
theorem qi_vo (ok : qf_ok n sv ru ar vc vs vn) (I : qi_I n sv ar vc vs vn T z vo st jn bg lv k lt ls la lw) : ∀ d, d < n → vo d ≤ 4 ∧ ((st d = 1 ∨ st d = 2) → vo d < 4) := by
  intro d hd
  obtain ⟨q1, q2, q3, q4, q5, _⟩ := I.2.1 d hd
  have hv := (ok.2.2.1 d hd).2
  refine ⟨by omega, fun h => ?_⟩
  rcases h with h | h
  · have := (q4 h).1; omega
  · have := (q5 h).1; omega
end
end
section
theorem qw_note {post : St1 → Prop} {cu ch en pe td rt lk : Int32} {a1 a2 a3 a4 a5 a6 a7 a8 a9 a10 a11 a12 a13 a14 a15 a16 a17 a18 a19 a20 a21 a22 a23 a24 a25 a26 a27 : Nat → Int32} {k : Nat} {p0 p1 p2 p3 b1 b2 b3 : Int32} (hk : k < 160) (hch : ch = nI k) (e1 : p1.toInt8.toInt32 = b1) (e2 : p2.toInt8.toInt32 = b2) (e3 : p3.toInt8.toInt32 = b3)
    (H : post (cu, nI (k + 1), en, pe, td, rt, lk, a1, a2, a3, a4, a5, a6, a7, a8, a9, a10, a11, a12, upd a13 k p0, upd a14 k b1, upd a15 k b2, upd a16 k b3, a17, a18, a19, a20, a21, a22, a23, a24, a25, a26, a27)) : wpX_note post (cu, ch, en, pe, td, rt, lk, a1, a2, a3, a4, a5, a6, a7, a8, a9, a10, a11, a12, a13, a14, a15, a16, a17, a18, a19, a20, a21, a22, a23, a24, a25, a26, a27) p0 p1 p2 p3 := by
  subst hch
  have hcl : (nI k).toNatClampNeg = k := qn_cl (by omega)
  refine And.intro (pk_in k 160 hk) (nm_e ⟨pk_in k 160 hk, nm_e ⟨pk_in k 160 hk, nm_e ⟨pk_in k 160 hk, nm_e (nm_r (nI_1 k) ?_)⟩⟩⟩)
  rw [hcl, e1, e2, e3]
  exact H
section
variable {n : Nat} {sv ru ar vc vs vn : Nat → Nat} {T c : Nat} {m : qm_M}
theorem qw_go {post : St1 → Prop} {cu ch en pe td rt lk : Int32} {a1 a2 a3 a4 a5 a6 a7 a8 a9 a10 a11 a12 a13 a14 a15 a16 a17 a18 a19 a20 a21 a22 a23 a24 a25 a26 a27 : Nat → Int32} (ok : qf_ok n sv ru ar vc vs vn) (F : qf_R n sv ru ar vc vs vn cu a1 a2 a3 a4 a5 a6) (I : qi_J n sv ar vc vs vn T c m) (R : qr_J n sv vs m ch a7 a8 a9 a13 a14 a15 a16 a17 a18 a19) (hc : c < n) (h4 : m.2.1 c = 4)
    (H : ∀ ch' a7' a9' a13' a14' a15' a16' a18', qi_J n sv ar vc vs vn T 99 (qm_go vc vs m c T) → qr_J n sv vs (qm_go vc vs m c T) ch' a7' a8 a9' a13' a14' a15' a16' a17 a18' a19 → post (cu, ch', en, pe, td, rt, lk, a1, a2, a3, a4, a5, a6, a7', a8, a9', a10, a11, a12, a13', a14', a15', a16', a17, a18', a19, a20, a21, a22, a23, a24, a25, a26, a27)) : wpX_goOn post (cu, ch, en, pe, td, rt, lk, a1, a2, a3, a4, a5, a6, a7, a8, a9, a10, a11, a12, a13, a14, a15, a16, a17, a18, a19, a20, a21, a22, a23, a24, a25, a26, a27) (nI c) (nI T) := by
  obtain ⟨vo, st, jn, bg, lv, k, lt, ls, la, lw⟩ := m
  have I' : qi_I n sv ar vc vs vn T c vo st jn bg lv k lt ls la lw := I
  have R' : qr_R n sv vs vo st jn bg lv k lt ls la lw ch a7 a8 a9 a13 a14 a15 a16 a17 a18 a19 := R
  have h4' : st c = 4 := h4
  have hn := ok.1
  have hk := qi_ch ok I'
  have hT := qi_T ok I'
  obtain ⟨f1, f2, f3, f4⟩ := F
  have hvc := (ok.2.2.1 c hc).2
  have hvo := (I'.2.1 c hc).2.1
  have hcl : (nI c).toNatClampNeg = c := qn_cl (by omega)
  have v1 : a17 (nI c).toNatClampNeg = nI (vo c) := by rw [hcl]; exact R'.2.1 c hc
  have v2 : a4 (nI c).toNatClampNeg = nI (vc c) := by rw [hcl]; exact (f3 c hc).2
  refine And.intro (pk_in c 12 (by omega)) ⟨pk_in c 12 (by omega), ?_⟩
  refine pk_lt (vo c) (vc c) (fun z => ?_) (fun z => ?_) v1 v2
  · have hgo : qm_go vc vs (vo, st, jn, bg, lv, k, lt, ls, la, lw) c T = (vo, qn_u st c 1, qn_u jn (4 * c + vo c) T, bg, lv, k + 1, qn_u lt k T, qn_u ls k (vs (4 * c + vo c)), qn_u la k 1, qn_u lw k 1) := if_pos z
    have hs0 := (ok.2.2.2 c (vo c) hc z).1
    have hv : nI c * 4 + a17 (nI c).toNatClampNeg = nI (4 * c + vo c) := by rw [v1]; exact qn_t4
    have hvl : (nI (4 * c + vo c)).toNatClampNeg = 4 * c + vo c := qn_cl (by omega)
    have hs : a5 (nI (4 * c + vo c)).toNatClampNeg = nI (vs (4 * c + vo c)) := by rw [hvl]; exact (f4 c (vo c) hc z).1
    have hsl : (nI (vs (4 * c + vo c))).toNatClampNeg = vs (4 * c + vo c) := qn_cl (by omega)
    refine ⟨pk_in c 12 (by omega), nm_r hv ⟨pk_in (4 * c + vo c) 48 (by omega), nm_e ⟨pk_in (4 * c + vo c) 48 (by omega), nm_r hs ⟨pk_in _ 4 hs0, pk_in _ 4 hs0, nm_e ?_⟩⟩⟩⟩
    rw [hvl, hsl]
    refine qw_note (k := k) (by omega) R'.1 (qn_b _ (by omega)) qn_b1 qn_b1 ?_
    refine H _ _ _ _ _ _ _ _ ?_ ?_
    · rw [hgo]; exact qi_join ok I' hc h4' z
    · rw [hgo]; exact qr_join hn hc h4' (by omega) (qi_vo ok I') hs0 R'
  · have hgo : qm_go vc vs (vo, st, jn, bg, lv, k, lt, ls, la, lw) c T = (vo, qn_u st c 3, jn, bg, qn_u lv c T, k, lt, ls, la, lw) := if_neg (by omega)
    refine ⟨pk_in c 12 (by omega), nm_e ?_⟩
    rw [hcl]
    refine H _ _ _ _ _ _ _ _ ?_ ?_
    · rw [hgo]; exact qi_gone ok I' hc h4' (by omega)
    · rw [hgo]; exact qr_gone hn hc h4' R'
theorem qw_fin {post : St1 → Prop} {cu ch en pe td rt lk : Int32} {a1 a2 a3 a4 a5 a6 a7 a8 a9 a10 a11 a12 a13 a14 a15 a16 a17 a18 a19 a20 a21 a22 a23 a24 a25 a26 a27 : Nat → Int32} (ok : qf_ok n sv ru ar vc vs vn) (F : qf_R n sv ru ar vc vs vn cu a1 a2 a3 a4 a5 a6) (I : qi_J n sv ar vc vs vn T 99 m) (R : qr_J n sv vs m ch a7 a8 a9 a13 a14 a15 a16 a17 a18 a19) (hc : c < n) (h2 : m.2.1 c = 2) (hT0 : m.2.2.2.1 (4 * c + m.1 c) + vn (4 * c + m.1 c) = T)
    (H : ∀ ch' a7' a9' a13' a14' a15' a16' a17' a18' a19', qi_J n sv ar vc vs vn T 99 (qm_go vc vs (qm_dep vs m c T) c T) → qr_J n sv vs (qm_go vc vs (qm_dep vs m c T) c T) ch' a7' a8 a9' a13' a14' a15' a16' a17' a18' a19' → post (cu, ch', en, pe, td, rt, lk, a1, a2, a3, a4, a5, a6, a7', a8, a9', a10, a11, a12, a13', a14', a15', a16', a17', a18', a19', a20, a21, a22, a23, a24, a25, a26, a27)) : wpX_finish post (cu, ch, en, pe, td, rt, lk, a1, a2, a3, a4, a5, a6, a7, a8, a9, a10, a11, a12, a13, a14, a15, a16, a17, a18, a19, a20, a21, a22, a23, a24, a25, a26, a27) (nI c) (nI T) := by
  obtain ⟨vo, st, jn, bg, lv, k, lt, ls, la, lw⟩ := m
  have I' : qi_I n sv ar vc vs vn T 99 vo st jn bg lv k lt ls la lw := I
  have R' : qr_R n sv vs vo st jn bg lv k lt ls la lw ch a7 a8 a9 a13 a14 a15 a16 a17 a18 a19 := R
  have h2' : st c = 2 := h2
  have hT0' : bg (4 * c + vo c) + vn (4 * c + vo c) = T := hT0
  have F' := F
  have hn := ok.1
  have hk := qi_ch ok I'
  obtain ⟨f1, f2, f3, f4⟩ := F'
  have hvc := (ok.2.2.1 c hc).2
  have hvo := ((I'.2.1 c hc).2.2.2.2.1 h2').1
  have hs0 := (ok.2.2.2 c (vo c) hc hvo).1
  have hcl : (nI c).toNatClampNeg = c := qn_cl (by omega)
  have v1 : a17 (nI c).toNatClampNeg = nI (vo c) := by rw [hcl]; exact R'.2.1 c hc
  have hv : nI c * 4 + a17 (nI c).toNatClampNeg = nI (4 * c + vo c) := by rw [v1]; exact qn_t4
  have hvl : (nI (4 * c + vo c)).toNatClampNeg = 4 * c + vo c := qn_cl (by omega)
  have hs : a5 (nI c * 4 + a17 (nI c).toNatClampNeg).toNatClampNeg = nI (vs (4 * c + vo c)) := by rw [hv, hvl]; exact (f4 c (vo c) hc hvo).1
  have hsl : (nI (vs (4 * c + vo c))).toNatClampNeg = vs (4 * c + vo c) := qn_cl (by omega)
  obtain ⟨f, g1, g2, g3⟩ := R'.2.2.2.1 _ hs0
  have hone : 1 ≤ qs_I (qi_b vs vo st (vs (4 * c + vo c))) 12 := by
    have := qs_ge (f := qi_b vs vo st (vs (4 * c + vo c))) (c := c) (k := 12) (by omega) (fun i _ => qi_bn _ _ _ _ _)
    unfold qi_b at this
    rw [if_pos ⟨h2', rfl⟩] at this
    exact this
  have hsv := (ok.2.1 _ hs0).2.1
  have hb : (nI f + 1).toInt8.toInt32 = nI (f + 1) := by rw [nI_1]; exact qn_b _ (by omega)
  have hb2 : (nI (vo c) + 1).toInt8.toInt32 = nI (vo c + 1) := by rw [nI_1]; exact qn_b _ (by omega)
  refine And.intro (pk_in c 12 (by omega)) ⟨pk_in (4 * c + vo c) 48 (by omega) hv, nm_r hs ⟨pk_in _ 4 hs0, pk_in _ 4 hs0, nm_e ?_⟩⟩
  rw [hsl, g2, hb]
  refine qw_note (k := k) (by omega) R'.1 (qn_b _ (by omega)) qn_bm1 qn_b0 ?_
  refine ⟨pk_in c 12 (by omega), pk_in c 12 (by omega), nm_e ?_⟩
  rw [hcl, R'.2.1 c hc, hb2]
  refine qw_go (m := qm_dep vs (vo, st, jn, bg, lv, k, lt, ls, la, lw) c T) ok F (qi_dep ok I' hc h2' hT0') (qr_dep hn hc h2' hs0 g2 g3 (by omega) R') hc qn_us (fun ch' a7' a9' a13' a14' a15' a16' a18' i r => ?_)
  exact H _ _ _ _ _ _ _ _ _ _ i r
theorem qw_hd {post : St1 → Prop} {cu ch en pe td rt lk : Int32} {a1 a2 a3 a4 a5 a6 a7 a8 a9 a10 a11 a12 a13 a14 a15 a16 a17 a18 a19 a20 a21 a22 a23 a24 a25 a26 a27 : Nat → Int32} {E : Nat} (ok : qf_ok n sv ru ar vc vs vn) (F : qf_R n sv ru ar vc vs vn cu a1 a2 a3 a4 a5 a6) (I : qi_J n sv ar vc vs vn T 99 m) (R : qr_J n sv vs m ch a7 a8 a9 a13 a14 a15 a16 a17 a18 a19) (hE : E < 1048576) (hc : E % 16 < n) (hev : qm_ev ar vn m (E % 16) = E) (h0 : E ≠ 0) (hT : E / 32 = T)
    (H : ∀ ch' a7' a9' a13' a14' a15' a16' a17' a18' a19', qi_J n sv ar vc vs vn T 99 (qm_hd vc vs m E T) → qr_J n sv vs (qm_hd vc vs m E T) ch' a7' a8 a9' a13' a14' a15' a16' a17' a18' a19' → post (cu, ch', en, pe, td, rt, lk, a1, a2, a3, a4, a5, a6, a7', a8, a9', a10, a11, a12, a13', a14', a15', a16', a17', a18', a19', a20, a21, a22, a23, a24, a25, a26, a27)) : wpX_handle post (cu, ch, en, pe, td, rt, lk, a1, a2, a3, a4, a5, a6, a7, a8, a9, a10, a11, a12, a13, a14, a15, a16, a17, a18, a19, a20, a21, a22, a23, a24, a25, a26, a27) (nI E) (nI T) := by
  have hr : nI E - nI E / 16 * 16 = nI (E % 16) := qn_r16 (by omega)
  have hr2 : nI E - nI E / 32 * 32 = nI (E % 32) := qn_r32 (by omega)
  have hn := ok.1
  refine And.intro qn_16 ?_
  rw [hr]
  refine ⟨qn_32, ?_⟩
  have hcase : (m.2.1 (E % 16) = 0 ∧ E % 32 = 16 + E % 16 ∧ ar (E % 16) = T) ∨ (m.2.1 (E % 16) = 2 ∧ E % 32 = E % 16 ∧ m.2.2.2.1 (4 * (E % 16) + m.1 (E % 16)) + vn (4 * (E % 16) + m.1 (E % 16)) = T) := by
    obtain ⟨vo, st, jn, bg, lv, k, lt, ls, la, lw⟩ := m
    have hev' : qi_ev ar vn vo st bg (E % 16) = E := hev
    unfold qi_ev at hev'
    by_cases e1 : st (E % 16) = 0
    · rw [if_pos e1] at hev'
      exact Or.inl ⟨e1, by omega, by omega⟩
    · rw [if_neg e1] at hev'
      by_cases e2 : st (E % 16) = 2
      · rw [if_pos e2] at hev'
        refine Or.inr ⟨e2, by omega, ?_⟩
        show bg (4 * (E % 16) + vo (E % 16)) + vn (4 * (E % 16) + vo (E % 16)) = T
        omega
      · rw [if_neg e2] at hev'
        exact absurd hev'.symm h0
  refine pk_lt (E % 32) 16 (fun z => ?_) (fun z => ?_) hr2
  · have hh : qm_hd vc vs m E T = qm_go vc vs (qm_dep vs m (E % 16) T) (E % 16) T := if_pos z
    rcases hcase with ⟨w1, w2, w3⟩ | ⟨w1, w2, w3⟩
    · omega
    · refine qw_fin ok F I R hc w1 w3 (fun ch' a7' a9' a13' a14' a15' a16' a17' a18' a19' i r => H _ _ _ _ _ _ _ _ _ _ ?_ ?_)
      · rw [hh]; exact i
      · rw [hh]; exact r
  · have hh : qm_hd vc vs m E T = qm_go vc vs (qm_arr m (E % 16)) (E % 16) T := if_neg (by omega)
    rcases hcase with ⟨w1, w2, w3⟩ | ⟨w1, w2, w3⟩
    · obtain ⟨vo, st, jn, bg, lv, k, lt, ls, la, lw⟩ := m
      have I' : qi_I n sv ar vc vs vn T 99 vo st jn bg lv k lt ls la lw := I
      have R' : qr_R n sv vs vo st jn bg lv k lt ls la lw ch a7 a8 a9 a13 a14 a15 a16 a17 a18 a19 := R
      refine qw_go (m := qm_arr (vo, st, jn, bg, lv, k, lt, ls, la, lw) (E % 16)) ok F (qi_arr ok I' hc w1 w3) (qr_arr hn hc w1 R') hc qn_us (fun ch' a7' a9' a13' a14' a15' a16' a18' i r => H _ _ _ _ _ _ _ _ _ _ ?_ ?_)
      · rw [hh]; exact i
      · rw [hh]; exact r
    · omega
end
theorem qw_bf {post : Int32 → Prop} {cu ch en pe td rt lk : Int32} {a1 a2 a3 a4 a5 a6 a7 a8 a9 a10 a11 a12 a13 a14 a15 a16 a17 a18 a19 a20 a21 a22 a23 a24 a25 a26 a27 : Nat → Int32} {ru vn vo jn : Nat → Nat} {s c d : Nat} (hc : c < 12) (hd : d < 12) (hc4 : vo c < 4) (hd4 : vo d < 4) (c17 : a17 c = nI (vo c)) (d17 : a17 d = nI (vo d)) (c7 : a7 (4 * c + vo c) = nI (jn (4 * c + vo c))) (d7 : a7 (4 * d + vo d) = nI (jn (4 * d + vo d)))
    (c6 : a6 (4 * c + vo c) = nI (vn (4 * c + vo c))) (d6 : a6 (4 * d + vo d) = nI (vn (4 * d + vo d))) (bc : jn (4 * c + vo c) < 1048576) (bd : jn (4 * d + vo d) < 1048576) (nc : vn (4 * c + vo c) < 128) (nd : vn (4 * d + vo d) < 128) (hr : ru s < 128)
    (H1 : qm_bf ru vn vo jn s c d = true → post 1) (H0 : qm_bf ru vn vo jn s c d = false → post 0) : wpX_isBefore post (cu, ch, en, pe, td, rt, lk, a1, a2, a3, a4, a5, a6, a7, a8, a9, a10, a11, a12, a13, a14, a15, a16, a17, a18, a19, a20, a21, a22, a23, a24, a25, a26, a27) (nI c) (nI d) (nI (ru s)) := by
  have hcl : (nI c).toNatClampNeg = c := qn_cl (by omega)
  have hdl : (nI d).toNatClampNeg = d := qn_cl (by omega)
  have hv : nI c * 4 + a17 (nI c).toNatClampNeg = nI (4 * c + vo c) := by rw [hcl, c17]; exact qn_t4
  have hw : nI d * 4 + a17 (nI d).toNatClampNeg = nI (4 * d + vo d) := by rw [hdl, d17]; exact qn_t4
  have kv : (nI (4 * c + vo c)).toNatClampNeg = 4 * c + vo c := qn_cl (by omega)
  have kw : (nI (4 * d + vo d)).toNatClampNeg = 4 * d + vo d := qn_cl (by omega)
  have i1 : vp_in (nI (4 * c + vo c)) 48 := pk_in (4 * c + vo c) 48 (by omega)
  have i2 : vp_in (nI (4 * d + vo d)) 48 := pk_in (4 * d + vo d) 48 (by omega)
  have c7' : a7 (nI (4 * c + vo c)).toNatClampNeg = nI (jn (4 * c + vo c)) := by rw [kv]; exact c7
  have d7' : a7 (nI (4 * d + vo d)).toNatClampNeg = nI (jn (4 * d + vo d)) := by rw [kw]; exact d7
  have c6' : a6 (nI (4 * c + vo c)).toNatClampNeg = nI (vn (4 * c + vo c)) := by rw [kv]; exact c6
  have d6' : a6 (nI (4 * d + vo d)).toNatClampNeg = nI (vn (4 * d + vo d)) := by rw [kw]; exact d6
  unfold qm_bf at H1 H0
  refine And.intro (pk_in c 12 hc) (nm_r hv ⟨pk_in d 12 hd, nm_r hw ?_⟩)
  refine pk_eq (ru s) 1 (fun z => ⟨i1, i2, ?_⟩) (fun z => ?_)
  · rw [if_pos z] at H1 H0
    exact pk_lt _ _ (fun y => H0 (decide_eq_false (by omega))) (fun y => H1 (decide_eq_true (by omega))) c7' d7'
  · rw [if_neg z] at H1 H0
    refine pk_eq (ru s) 2 (fun y => ⟨i1, i2, ?_⟩) (fun y => ?_)
    · refine pk_eq (vn (4 * c + vo c)) (vn (4 * d + vo d)) (fun x => ?_) (fun x => ⟨i1, i2, ?_⟩) c6' d6'
      · rw [if_neg (fun w => w.2 x)] at H1 H0
        exact And.intro i1 ⟨i2, pk_le _ _ (fun y => H0 (decide_eq_false (by omega))) (fun y => H1 (decide_eq_true (by omega))) d7' c7'⟩
      · rw [if_pos ⟨y, x⟩] at H1 H0
        exact pk_le _ _ (fun y => H0 (decide_eq_false (by omega))) (fun y => H1 (decide_eq_true (by omega))) d6' c6'
    · rw [if_neg (fun w => y w.1)] at H1 H0
      exact And.intro i1 ⟨i2, pk_le _ _ (fun y => H0 (decide_eq_false (by omega))) (fun y => H1 (decide_eq_true (by omega))) d7' c7'⟩
def qm_enc : Option Nat → Int32
  | none => -1
  | some d => nI d
theorem qm_cs {ru vs vn vo st jn : Nat → Nat} {s : Nat} : ∀ {k d : Nat}, qm_chs ru vs vn vo st jn s k = some d → d < k ∧ st d = 1 ∧ vs (4 * d + vo d) = s := by
  intro k
  induction k with
  | zero => intro d h; exact absurd h (by simp [qm_chs])
  | succ k ih =>
    intro d h
    unfold qm_chs at h
    by_cases e : st k = 1 ∧ vs (4 * k + vo k) = s
    · rw [if_pos e] at h
      cases hq : qm_chs ru vs vn vo st jn s k with
      | none =>
        rw [hq] at h
        have : k = d := Option.some.inj h
        rw [← this]; exact ⟨by omega, e⟩
      | some x =>
        rw [hq] at h
        have h' : (if qm_bf ru vn vo jn s k x = true then some k else some x) = some d := h
        by_cases e2 : qm_bf ru vn vo jn s k x = true
        · rw [if_pos e2] at h'
          have : k = d := Option.some.inj h'
          rw [← this]; exact ⟨by omega, e⟩
        · rw [if_neg e2] at h'
          have : x = d := Option.some.inj h'
          rw [← this]
          obtain ⟨g1, g2⟩ := ih hq
          exact ⟨by omega, g2⟩
    · rw [if_neg e] at h
      obtain ⟨g1, g2⟩ := ih h
      exact ⟨by omega, g2⟩
theorem qm_cn {ru vs vn vo st jn : Nat → Nat} {s : Nat} : ∀ {k : Nat}, qm_chs ru vs vn vo st jn s k = none → ∀ c, c < k → ¬ (st c = 1 ∧ vs (4 * c + vo c) = s) := by
  intro k
  induction k with
  | zero => intro _ c hc; omega
  | succ k ih =>
    intro h c hc
    unfold qm_chs at h
    by_cases e : st k = 1 ∧ vs (4 * k + vo k) = s
    · rw [if_pos e] at h
      exfalso
      cases hq : qm_chs ru vs vn vo st jn s k with
      | none => rw [hq] at h; exact absurd h (by simp)
      | some x =>
        rw [hq] at h
        have h' : (if qm_bf ru vn vo jn s k x = true then some k else some x) = none := h
        by_cases e2 : qm_bf ru vn vo jn s k x = true
        · rw [if_pos e2] at h'; exact absurd h' (by simp)
        · rw [if_neg e2] at h'; exact absurd h' (by simp)
    · rw [if_neg e] at h
      by_cases ec : c = k
      · rw [ec]; exact e
      · exact ih h c (by omega)
theorem qw_choose {post : Int32 → Prop} {cu ch en pe td rt lk : Int32} {a1 a2 a3 a4 a5 a6 a7 a8 a9 a10 a11 a12 a13 a14 a15 a16 a17 a18 a19 a20 a21 a22 a23 a24 a25 a26 a27 : Nat → Int32} {n : Nat} {sv ru ar vc vs vn : Nat → Nat} {T s : Nat} {vo st jn bg lv : Nat → Nat} {k : Nat} {lt ls : Nat → Nat} {la lw : Nat → Int} (ok : qf_ok n sv ru ar vc vs vn) (F : qf_R n sv ru ar vc vs vn cu a1 a2 a3 a4 a5 a6) (I : qi_I n sv ar vc vs vn T 99 vo st jn bg lv k lt ls la lw) (R : qr_R n sv vs vo st jn bg lv k lt ls la lw ch a7 a8 a9 a13 a14 a15 a16 a17 a18 a19) (hs : s < 4)
    (H : post (qm_enc (qm_chs ru vs vn vo st jn s 12))) : wpX_choose post (cu, ch, en, pe, td, rt, lk, a1, a2, a3, a4, a5, a6, a7, a8, a9, a10, a11, a12, a13, a14, a15, a16, a17, a18, a19, a20, a21, a22, a23, a24, a25, a26, a27) (nI s) := by
  have hn := ok.1
  have hT := qi_T ok I
  have hsl : (nI s).toNatClampNeg = s := qn_cl (by omega)
  have fact : ∀ c, c < 12 → st c = 1 → c < n ∧ vo c < 4 ∧ a17 c = nI (vo c) ∧ a7 (4 * c + vo c) = nI (jn (4 * c + vo c)) ∧ a6 (4 * c + vo c) = nI (vn (4 * c + vo c)) ∧ jn (4 * c + vo c) < 1048576 ∧ vn (4 * c + vo c) < 128 := by
    intro c hc h1
    have hcn : c < n := by
      rcases Nat.lt_or_ge c n with w | w
      · exact w
      · have := (I.1 c w).1; omega
    obtain ⟨q1, q2, q3⟩ := (I.2.1 c hcn).2.2.2.1 h1
    have hv := (ok.2.2.1 c hcn).2
    obtain ⟨o1, o2, o3⟩ := ok.2.2.2 c (vo c) hcn q1
    exact ⟨hcn, by omega, R.2.1 c hcn, R.2.2.2.2.1 c (vo c) hcn (Or.inr ⟨rfl, Or.inl h1⟩), (F.2.2.2 c (vo c) hcn q1).2, by omega, by omega⟩
  refine pk_loop (fun j i x => wX_choose_4 post (nI s) cu ch en pe td rt lk a1 a2 a3 a4 a5 a6 a7 a8 a9 a10 a11 a12 a13 a14 a15 a16 a17 a18 a19 a20 a21 a22 a23 a24 a25 a26 a27 j x (nI i)) (fun i x => x = qm_enc (qm_chs ru vs vn vo st jn s i)) 12 0 (-1) (by omega) rfl ?_ ?_
  · intro j x hx
    refine br_t (Int32.le_refl _) ?_
    rw [hx]; exact H
  · intro j i x hi hx hw
    have hbit := R.2.2.1 s i hs (by omega)
    refine br_f (nI_ge (b := 12) hi (by decide)) ⟨pk_in s 4 hs, ?_⟩
    rw [hsl]
    by_cases e : st i = 1 ∧ vs (4 * i + vo i) = s
    · have hb : ¬ ((a18 s >>> (nI i &&& 31)) &&& 1) = 0 := by
        rw [qz_tst _ (by omega), hbit, decide_eq_true e]; simp
      refine br_f hb ?_
      cases hq : qm_chs ru vs vn vo st jn s i with
      | none =>
        rw [hq] at hx
        have hx' : x = -1 := hx
        refine br_t (by rw [hx']; exact qn_m1) (nm_r (nI_1 i) (hw (nI i) ?_))
        rw [qm_chs, if_pos e, hq]; rfl
      | some d =>
        rw [hq] at hx
        have hx' : x = nI d := hx
        obtain ⟨d1, d2, d3⟩ := qm_cs hq
        obtain ⟨p1, p2, p3, p4, p5, p6, p7⟩ := fact d (by omega) d2
        obtain ⟨q1, q2, q3, q4, q5, q6, q7⟩ := fact i hi e.1
        rw [hx']
        refine br_f (nI_pos (by omega)) ⟨pk_in s 4 hs, ?_⟩
        rw [(F.2.1 s hs).2]
        have hr := (ok.2.1 s hs).2.2
        refine qw_bf (ru := ru) (vn := vn) (vo := vo) (jn := jn) hi (by omega) q2 p2 q3 p3 q4 p4 q5 p5 q6 p6 q7 p7 (by omega) (fun z => br_f (by decide) (nm_r (nI_1 i) (hw (nI i) ?_))) (fun z => br_t rfl (nm_r (nI_1 i) (hw (nI d) ?_)))
        · rw [qm_chs, if_pos e, hq]
          show nI i = qm_enc (if qm_bf ru vn vo jn s i d = true then some i else some d)
          rw [if_pos z]; rfl
        · rw [qm_chs, if_pos e, hq]
          show nI d = qm_enc (if qm_bf ru vn vo jn s i d = true then some i else some d)
          rw [if_neg (by rw [z]; simp)]; rfl
    · have hb : ((a18 s >>> (nI i &&& 31)) &&& 1) = 0 := by
        rw [qz_tst _ (by omega), hbit, decide_eq_false e]
      refine br_t hb (nm_r (nI_1 i) (hw x ?_))
      rw [qm_chs, if_neg e]; exact hx
end
section
def qm_W (vs : Nat → Nat) : qm_M → Nat → Int
  | (vo, st, _, _, _, _, _, _, _, _), s => qs_I (qi_w vs vo st s) 12
def qm_B (vs : Nat → Nat) : qm_M → Nat → Int
  | (vo, st, _, _, _, _, _, _, _, _), s => qs_I (qi_b vs vo st s) 12
def qm_K (sv vs : Nat → Nat) (m : qm_M) (s : Nat) : Prop := qm_B vs m s = (sv s : Int) ∨ qm_W vs m s = 0
/-- events that are still to come -/
def qi_u (vc vo st : Nat → Nat) (c : Nat) : Int := if st c = 0 then (vc c : Int) + 1 else if st c = 1 ∨ st c = 2 then (vc c : Int) - (vo c : Int) else 0
def qm_U (vc : Nat → Nat) : qm_M → Int
  | (vo, st, _, _, _, _, _, _, _, _) => qs_I (qi_u vc vo st) 12
section
variable {n : Nat} {sv ru ar vc vs vn : Nat → Nat} {T : Nat}
theorem qm_evs {vo st jn bg lv : Nat → Nat} {k : Nat} {lt ls : Nat → Nat} {la lw : Nat → Int} {c : Nat} (ok : qf_ok n sv ru ar vc vs vn) (I : qi_I n sv ar vc vs vn T 99 vo st jn bg lv k lt ls la lw) (hc : c < n) (h1 : st c = 1) :
    qm_ev ar vn (qm_srv vs (vo, st, jn, bg, lv, k, lt, ls, la, lw) c T) = qn_u (qm_ev ar vn (vo, st, jn, bg, lv, k, lt, ls, la, lw)) c (32 * (T + vn (4 * c + vo c)) + c) := by
  funext d
  show qi_ev ar vn vo (qn_u st c 2) (qn_u bg (4 * c + vo c) T) d = qn_u (qi_ev ar vn vo st bg) c (32 * (T + vn (4 * c + vo c)) + c) d
  by_cases e : d = c
  · rw [e, qn_us]
    unfold qi_ev
    rw [qn_us, qn_us, if_neg (by omega), if_pos rfl]
  · rw [qn_un e]
    unfold qi_ev
    rw [qn_un e]
    by_cases e2 : st d = 2
    · have hdn : d < n := by
        rcases Nat.lt_or_ge d n with w | w
        · exact w
        · have := (I.1 d w).1; omega
      have h4 := (qi_vo ok I d hdn).2 (Or.inr e2)
      have h5 := (qi_vo ok I c hc).2 (Or.inl h1)
      rw [qn_un (by omega)]
    · rw [if_neg e2, if_neg e2]
theorem qm_us {m : qm_M} {c : Nat} (hc : c < 12) (h1 : m.2.1 c = 1) : qm_U vc (qm_srv vs m c T) = qm_U vc m := by
  obtain ⟨vo, st, jn, bg, lv, k, lt, ls, la, lw⟩ := m
  have h1' : st c = 1 := h1
  refine qs_cg (fun d _ => ?_)
  unfold qi_u
  by_cases e : d = c
  · rw [e, qn_us, h1']; simp
  · rw [qn_un e]
theorem qm_Ws {m : qm_M} {c s : Nat} (hc : c < 12) (h1 : m.2.1 c = 1) (hs : vs (4 * c + m.1 c) = s) : qm_W vs (qm_srv vs m c T) s = qm_W vs m s - 1 := by
  obtain ⟨vo, st, jn, bg, lv, k, lt, ls, la, lw⟩ := m
  have h1' : st c = 1 := h1
  have hs' : vs (4 * c + vo c) = s := hs
  show qs_I (qi_w vs vo (qn_u st c 2) s) 12 = qs_I (qi_w vs vo st s) 12 - 1
  rw [qi_wup (st := st) (st' := qn_u st c 2) (vo := vo) (vo' := vo) (c := c) hc (fun d hd => ⟨qn_un hd, rfl⟩)]
  unfold qi_w
  rw [qn_us, if_pos ⟨h1', hs'⟩, if_neg (fun w => absurd w.1 (by omega))]
  omega
theorem qm_Ks {m : qm_M} {c s' : Nat} (hc : c < 12) (h1 : m.2.1 c = 1) (hs : vs (4 * c + m.1 c) ≠ s') (h : qm_K sv vs m s') : qm_K sv vs (qm_srv vs m c T) s' := by
  obtain ⟨vo, st, jn, bg, lv, k, lt, ls, la, lw⟩ := m
  have hs' : vs (4 * c + vo c) ≠ s' := hs
  have e1 : qm_W vs (qm_srv vs (vo, st, jn, bg, lv, k, lt, ls, la, lw) c T) s' = qm_W vs (vo, st, jn, bg, lv, k, lt, ls, la, lw) s' := by
    show qs_I (qi_w vs vo (qn_u st c 2) s') 12 = qs_I (qi_w vs vo st s') 12
    rw [qi_wup (st := st) (st' := qn_u st c 2) (vo := vo) (vo' := vo) (c := c) hc (fun d hd => ⟨qn_un hd, rfl⟩)]
    unfold qi_w
    rw [if_neg (fun w => hs' w.2), if_neg (fun w => hs' w.2)]
    omega
  have e2 : qm_B vs (qm_srv vs (vo, st, jn, bg, lv, k, lt, ls, la, lw) c T) s' = qm_B vs (vo, st, jn, bg, lv, k, lt, ls, la, lw) s' := by
    show qs_I (qi_b vs vo (qn_u st c 2) s') 12 = qs_I (qi_b vs vo st s') 12
    rw [qi_bup (st := st) (st' := qn_u st c 2) (vo := vo) (vo' := vo) (c := c) hc (fun d hd => ⟨qn_un hd, rfl⟩)]
    unfold qi_b
    rw [if_neg (fun w => hs' w.2), if_neg (fun w => hs' w.2)]
    omega
  unfold qm_K
  rw [e1, e2]
  exact h
theorem qm_svs {m : qm_M} {c s w : Nat} (hp : qm_pick sv ru vs vn m s = some c) : qm_sv sv ru vs vn s T (w + 1) m = qm_sv sv ru vs vn s T w (qm_srv vs m c T) := by
  show (match qm_pick sv ru vs vn m s with | none => m | some c => qm_sv sv ru vs vn s T w (qm_srv vs m c T)) = _
  rw [hp]
theorem qw_serve0 {post : St1 → Prop} {cu en td lk : Int32} {a1 a2 a3 a4 a5 a6 a7 a9 a10 a11 a12 a17 a26 : Nat → Int32} {e s lb : Nat} (ok : qf_ok n sv ru ar vc vs vn) (F : qf_R n sv ru ar vc vs vn cu a1 a2 a3 a4 a5 a6) (he : en = nI e) (hs : s < 4) (hlb : lb < 32 * (T + 1)) :
    ∀ (w : Nat) (m : qm_M) (ch pe rt : Int32) (a8 a13 a14 a15 a16 a18 a19 a20 a21 a22 a23 a24 a25 a27 : Nat → Int32), qi_J n sv ar vc vs vn T 99 m → qr_J n sv vs m ch a7 a8 a9 a13 a14 a15 a16 a17 a18 a19 → qq_R e pe td rt lk a20 a21 a22 a23 a24 a25 a27 (qm_ev ar vn m) lb → qm_W vs m s ≤ (w : Int) →
    (∀ (ch pe rt : Int32) (a8 a13 a14 a15 a16 a18 a19 a20 a21 a22 a23 a24 a25 a27 : Nat → Int32), qi_J n sv ar vc vs vn T 99 (qm_sv sv ru vs vn s T w m) → qr_J n sv vs (qm_sv sv ru vs vn s T w m) ch a7 a8 a9 a13 a14 a15 a16 a17 a18 a19 → qq_R e pe td rt lk a20 a21 a22 a23 a24 a25 a27 (qm_ev ar vn (qm_sv sv ru vs vn s T w m)) lb → qm_K sv vs (qm_sv sv ru vs vn s T w m) s → (∀ s', s' ≠ s → qm_K sv vs m s' → qm_K sv vs (qm_sv sv ru vs vn s T w m) s') → qm_U vc (qm_sv sv ru vs vn s T w m) = qm_U vc m → post (cu, ch, en, pe, td, rt, lk, a1, a2, a3, a4, a5, a6, a7, a8, a9, a10, a11, a12, a13, a14, a15, a16, a17, a18, a19, a20, a21, a22, a23, a24, a25, a26, a27)) →
    wX_serve_0 post (nI s) (nI T) (w + 1) cu ch en pe td rt lk a1 a2 a3 a4 a5 a6 a7 a8 a9 a10 a11 a12 a13 a14 a15 a16 a17 a18 a19 a20 a21 a22 a23 a24 a25 a26 a27 := by
  have hn := ok.1
  have hsl : (nI s).toNatClampNeg = s := qn_cl (by omega)
  have hout : ∀ (w : Nat) (m : qm_M), qm_pick sv ru vs vn m s = none → qm_sv sv ru vs vn s T w m = m := by
    intro w m hp
    cases w with
    | zero => rfl
    | succ w =>
      show (match qm_pick sv ru vs vn m s with | none => m | some c => qm_sv sv ru vs vn s T w (qm_srv vs m c T)) = _
      rw [hp]
  intro w
  induction w with
  | zero =>
    intro m ch pe rt a8 a13 a14 a15 a16 a18 a19 a20 a21 a22 a23 a24 a25 a27 I R Q hW H
    obtain ⟨vo, st, jn, bg, lv, k, lt, ls, la, lw⟩ := m
    have I' : qi_I n sv ar vc vs vn T 99 vo st jn bg lv k lt ls la lw := I
    have R' : qr_R n sv vs vo st jn bg lv k lt ls la lw ch a7 a8 a9 a13 a14 a15 a16 a17 a18 a19 := R
    have hW' : qs_I (qi_w vs vo st s) 12 ≤ 0 := hW
    have hnn := qs_nn (f := qi_w vs vo st s) (k := 12) (fun i _ => qi_wn _ _ _ _ _)
    have fin : post (cu, ch, en, pe, td, rt, lk, a1, a2, a3, a4, a5, a6, a7, a8, a9, a10, a11, a12, a13, a14, a15, a16, a17, a18, a19, a20, a21, a22, a23, a24, a25, a26, a27) := H _ _ _ _ _ _ _ _ _ _ _ _ _ _ _ _ _ I R Q (Or.inr (show qs_I (qi_w vs vo st s) 12 = 0 by omega)) (fun s' _ h => h) rfl
    obtain ⟨f, g1, g2, g3⟩ := R'.2.2.2.1 s hs
    refine And.intro (pk_in s 4 hs) ?_
    rw [hsl, g2]
    refine pk_le f 0 (fun _ => fin) (fun _ => ⟨pk_in s 4 hs, br_t ?_ fin⟩)
    refine qz_ext (fun i hi => ?_)
    rw [R'.2.2.1 s i hs hi, qz_0]
    refine decide_eq_false (fun z => ?_)
    have hi12 : i < 12 := by
      rcases Nat.lt_or_ge i n with y | y
      · omega
      · have := (I'.1 i y).1; omega
    have := qs_ge (f := qi_w vs vo st s) (c := i) (k := 12) hi12 (fun i _ => qi_wn _ _ _ _ _)
    unfold qi_w at this hW'
    rw [if_pos z] at this
    omega
  | succ w ih =>
    intro m ch pe rt a8 a13 a14 a15 a16 a18 a19 a20 a21 a22 a23 a24 a25 a27 I R Q hW H
    obtain ⟨vo, st, jn, bg, lv, k, lt, ls, la, lw⟩ := m
    have I' : qi_I n sv ar vc vs vn T 99 vo st jn bg lv k lt ls la lw := I
    have R' : qr_R n sv vs vo st jn bg lv k lt ls la lw ch a7 a8 a9 a13 a14 a15 a16 a17 a18 a19 := R
    have hT := qi_T ok I'
    have hk := qi_ch ok I'
    have hble := (I'.2.2.2.2.2.2.1 s hs).2.2
    obtain ⟨f, g1, g2, g3⟩ := R'.2.2.2.1 s hs
    have fin : qm_pick sv ru vs vn (vo, st, jn, bg, lv, k, lt, ls, la, lw) s = none → qm_K sv vs (vo, st, jn, bg, lv, k, lt, ls, la, lw) s → post (cu, ch, en, pe, td, rt, lk, a1, a2, a3, a4, a5, a6, a7, a8, a9, a10, a11, a12, a13, a14, a15, a16, a17, a18, a19, a20, a21, a22, a23, a24, a25, a26, a27) := by
      intro hp hK
      have hh := hout (w + 1) _ hp
      refine H _ _ _ _ _ _ _ _ _ _ _ _ _ _ _ _ _ ?_ ?_ ?_ ?_ ?_ ?_
      · rw [hh]; exact I
      · rw [hh]; exact R
      · rw [hh]; exact Q
      · rw [hh]; exact hK
      · intro s' _ h; rw [hh]; exact h
      · rw [hh]
    refine And.intro (pk_in s 4 hs) ?_
    rw [hsl, g2]
    refine pk_le f 0 (fun z => fin (if_neg (by omega)) (Or.inl (show qs_I (qi_b vs vo st s) 12 = (sv s : Int) by omega))) (fun z => ⟨pk_in s 4 hs, ?_⟩)
    have hpick : qm_pick sv ru vs vn (vo, st, jn, bg, lv, k, lt, ls, la, lw) s = qm_chs ru vs vn vo st jn s 12 := if_pos (by omega)
    cases hq : qm_chs ru vs vn vo st jn s 12 with
    | none =>
      have hno := qm_cn hq
      have hall : ∀ i, ¬ (st i = 1 ∧ vs (4 * i + vo i) = s) := by
        intro i z'
        rcases Nat.lt_or_ge i 12 with y | y
        · exact hno i y z'
        · have := (I'.1 i (by omega)).1
          omega
      refine br_t ?_ (fin (by rw [hpick, hq]) (Or.inr ?_))
      · refine qz_ext (fun i hi => ?_)
        rw [R'.2.2.1 s i hs hi, qz_0]
        exact decide_eq_false (hall i)
      · show qs_I (qi_w vs vo st s) 12 = 0
        refine qs_0 (fun i _ => ?_)
        unfold qi_w
        rw [if_neg (hall i)]
    | some c =>
      obtain ⟨c12, c1, cs⟩ := qm_cs hq
      have hcn : c < n := by
        rcases Nat.lt_or_ge c n with y | y
        · exact y
        · have := (I'.1 c y).1; omega
      obtain ⟨w1, w2, w3⟩ := (I'.2.1 c hcn).2.2.2.1 c1
      have hvc := (ok.2.2.1 c hcn).2
      obtain ⟨o1, o2, o3⟩ := ok.2.2.2 c (vo c) hcn w1
      have hcl : (nI c).toNatClampNeg = c := qn_cl (by omega)
      have hv : nI c * 4 + a17 (nI c).toNatClampNeg = nI (4 * c + vo c) := by rw [hcl, R'.2.1 c hcn]; exact qn_t4
      have hvl : (nI (4 * c + vo c)).toNatClampNeg = 4 * c + vo c := qn_cl (by omega)
      have hnz : ¬ a18 s = 0 := by
        intro y
        have := R'.2.2.1 s c hs (by omega)
        rw [y, qz_0, decide_eq_true ⟨c1, cs⟩] at this
        exact absurd this (by simp)
      have hb : (nI f - 1).toInt8.toInt32 = nI (f - 1) := by rw [qn_s1 z]; exact qn_b _ (by omega)
      have hE : 32 * (nI T + nI (vn (4 * c + vo c))) + nI c = nI (32 * (T + vn (4 * c + vo c)) + c) := by
        rw [show (32 : Int32) = nI 32 from rfl, nI_add, pk_mul, nI_add]
      have hEm : (32 * (T + vn (4 * c + vo c)) + c) % 16 = c := by omega
      have hsv : qm_sv sv ru vs vn s T (w + 1) (vo, st, jn, bg, lv, k, lt, ls, la, lw) = qm_sv sv ru vs vn s T w (qm_srv vs (vo, st, jn, bg, lv, k, lt, ls, la, lw) c T) := by
        exact qm_svs (by rw [hpick]; exact hq)
      refine br_f hnz (qw_choose ok F I' R' hs ?_)
      rw [hq]
      refine ⟨pk_in c 12 c12, nm_r hv ⟨pk_in s 4 hs, pk_in s 4 hs, nm_e ⟨pk_in s 4 hs, pk_in s 4 hs, nm_e ⟨pk_in (4 * c + vo c) 48 (by omega), nm_e ?_⟩⟩⟩⟩
      show wpX_note _ _ (nI T) (nI s) 0 (-1)
      refine qw_note (k := k) (by omega) R'.1 (qn_b s (by omega)) qn_b0 qn_bm1 ⟨pk_in (4 * c + vo c) 48 (by omega), ?_⟩
      rw [hvl, (F.2.2.2 c (vo c) hcn w1).2]
      show wpX_addEvent _ _ (32 * (nI T + nI (vn (4 * c + vo c))) + nI c)
      rw [hE]
      have hf' : a19 (vs (4 * c + vo c)) = nI f := by rw [cs]; exact g2
      have hf2 : (f : Int) + qs_I (qi_b vs vo st (vs (4 * c + vo c))) 12 = (sv (vs (4 * c + vo c)) : Int) := by rw [cs]; exact g3
      have RR := qr_srv (T := T) hn hcn c1 (by omega) (qi_vo ok I') o1 hf' hf2 g1 z R'
      have II := qi_srv ok I' hcn c1 (by omega)
      rw [cs] at RR
      refine qq_add (E := 32 * (T + vn (4 * c + vo c)) + c) he Q ⟨by omega, by omega, by omega, ?_⟩ (by omega) (fun pe' rt' a20' a21' a22' a23' a24' a25' a27' Q' => ?_)
      · rw [hEm]
        show qi_ev ar vn vo st bg c = 0
        unfold qi_ev
        rw [if_neg (by omega), if_neg (by omega)]
      · rw [hEm, ← qm_evs ok I' hcn c1] at Q'
        rw [hb]
        refine ih (qm_srv vs (vo, st, jn, bg, lv, k, lt, ls, la, lw) c T) _ _ _ _ _ _ _ _ _ _ _ _ _ _ _ _ _ II ?_ Q' ?_ ?_
        · show qr_R _ _ _ _ _ _ _ _ _ _ (qn_u ls k (vs (4 * c + vo c))) _ _ _ _ _ _ _ _ _ _ _ _ _
          rw [cs]
          exact RR
        · rw [qm_Ws c12 c1 cs]
          show qs_I (qi_w vs vo st s) 12 - 1 ≤ (w : Int)
          have hW' : qs_I (qi_w vs vo st s) 12 ≤ ((w + 1 : Nat) : Int) := hW
          omega
        · intro ch'' pe'' rt'' a8'' a13'' a14'' a15'' a16'' a18'' a19'' a20'' a21'' a22'' a23'' a24'' a25'' a27'' i r q kk ks uu
          refine H _ _ _ _ _ _ _ _ _ _ _ _ _ _ _ _ _ ?_ ?_ ?_ ?_ ?_ ?_
          · rw [hsv]; exact i
          · rw [hsv]; exact r
          · rw [hsv]; exact q
          · rw [hsv]; exact kk
          · intro s' hs' h
            rw [hsv]
            exact ks s' hs' (qm_Ks c12 c1 (fun y => hs' (by rw [← y]; exact cs)) h)
          · rw [hsv, uu, qm_us c12 c1]
end
end
section
section
variable {n : Nat} {sv ru ar vc vs vn : Nat → Nat} {T : Nat}
theorem qm_all1 {m : qm_M} {i : Nat} : qm_all sv ru vs vn T (i + 1) m = qm_sv sv ru vs vn i T 12 (qm_all sv ru vs vn T i m) := rfl
/-- all four stations serve -/
theorem qw_all {post : St1 → Prop} {J : Int32 → Int32 → Int32 → Int32 → Int32 → Int32 → Int32 → (Nat → Int32) → (Nat → Int32) → (Nat → Int32) → (Nat → Int32) → (Nat → Int32) → (Nat → Int32) → (Nat → Int32) → (Nat → Int32) → (Nat → Int32) → (Nat → Int32) → (Nat → Int32) → (Nat → Int32) → (Nat → Int32) → (Nat → Int32) → (Nat → Int32) → (Nat → Int32) → (Nat → Int32) → (Nat → Int32) → (Nat → Int32) → (Nat → Int32) → (Nat → Int32) → (Nat → Int32) → (Nat → Int32) → (Nat → Int32) → (Nat → Int32) → (Nat → Int32) → (Nat → Int32) → Prop} {cu en td lk : Int32} {a1 a2 a3 a4 a5 a6 a7 a9 a10 a11 a12 a17 a26 : Nat → Int32} {e lb : Nat} {m : qm_M} (ok : qf_ok n sv ru ar vc vs vn) (F : qf_R n sv ru ar vc vs vn cu a1 a2 a3 a4 a5 a6) (he : en = nI e) (hlb : lb < 32 * (T + 1))
    (H : ∀ (m1 : qm_M) (ch pe rt : Int32) (a8 a13 a14 a15 a16 a18 a19 a20 a21 a22 a23 a24 a25 a27 : Nat → Int32), m1 = qm_all sv ru vs vn T 4 m → qi_J n sv ar vc vs vn T 99 m1 → qr_J n sv vs m1 ch a7 a8 a9 a13 a14 a15 a16 a17 a18 a19 → qq_R e pe td rt lk a20 a21 a22 a23 a24 a25 a27 (qm_ev ar vn m1) lb → (∀ s, s < 4 → qm_K sv vs m1 s) → qm_U vc m1 = qm_U vc m → J cu ch en pe td rt lk a1 a2 a3 a4 a5 a6 a7 a8 a9 a10 a11 a12 a13 a14 a15 a16 a17 a18 a19 a20 a21 a22 a23 a24 a25 a26 a27) :
    ∀ (f i : Nat) (ch pe rt : Int32) (a8 a13 a14 a15 a16 a18 a19 a20 a21 a22 a23 a24 a25 a27 : Nat → Int32), i + f = 4 → qi_J n sv ar vc vs vn T 99 (qm_all sv ru vs vn T i m) → qr_J n sv vs (qm_all sv ru vs vn T i m) ch a7 a8 a9 a13 a14 a15 a16 a17 a18 a19 → qq_R e pe td rt lk a20 a21 a22 a23 a24 a25 a27 (qm_ev ar vn (qm_all sv ru vs vn T i m)) lb → (∀ s, s < i → qm_K sv vs (qm_all sv ru vs vn T i m) s) → qm_U vc (qm_all sv ru vs vn T i m) = qm_U vc m → wX_run_130 post J (nI T) (f + 1) (nI i) cu ch en pe td rt lk a1 a2 a3 a4 a5 a6 a7 a8 a9 a10 a11 a12 a13 a14 a15 a16 a17 a18 a19 a20 a21 a22 a23 a24 a25 a26 a27 := by
  intro f
  induction f with
  | zero =>
    intro i ch pe rt a8 a13 a14 a15 a16 a18 a19 a20 a21 a22 a23 a24 a25 a27 hi I R Q K U
    have hi4 : i = 4 := by omega
    subst hi4
    generalize hM : qm_all sv ru vs vn T 4 m = m1 at *
    exact br_t (Int32.le_refl _) (H m1 _ _ _ _ _ _ _ _ _ _ _ _ _ _ _ _ _ rfl I R Q K U)
  | succ f ih =>
    intro i ch pe rt a8 a13 a14 a15 a16 a18 a19 a20 a21 a22 a23 a24 a25 a27 hi I R Q K U
    refine br_f (nI_ge (b := 4) (by omega) (by decide)) (Exists.intro 13 ?_)
    have hq := qm_all1 (sv := sv) (ru := ru) (vs := vs) (vn := vn) (T := T) (m := m) (i := i)
    have nx := ih (i + 1)
    rw [hq] at nx
    revert I R Q K U nx
    generalize qm_all sv ru vs vn T i m = m1
    intro I R Q K U nx
    refine qw_serve0 ok F he (by omega) hlb 12 m1 _ _ _ _ _ _ _ _ _ _ _ _ _ _ _ _ _ I R Q ?_ (fun ch pe rt a8 a13 a14 a15 a16 a18 a19 a20 a21 a22 a23 a24 a25 a27 I' R' Q' K1 K2 U' => ?_)
    · obtain ⟨vo, st, jn, bg, lv, k, lt, ls, la, lw⟩ := m1
      show qs_I (qi_w vs vo st i) 12 ≤ _
      have := qs_cst (f := qi_w vs vo st i) (b := 1) (k := 12) (fun c _ => by unfold qi_w; split <;> omega)
      omega
    · refine nm_r (nI_1 i) (nx ch pe rt a8 a13 a14 a15 a16 a18 a19 a20 a21 a22 a23 a24 a25 a27 (by omega) I' R' Q' (fun s hs => ?_) (U'.trans U))
      by_cases es : s = i
      · rw [es]; exact K1
      · exact K2 s es (K s (by omega))
theorem qm_go1 {vo st jn bg lv : Nat → Nat} {k : Nat} {lt ls : Nat → Nat} {la lw : Nat → Int} {c : Nat} (h : vo c < vc c) : qm_go vc vs (vo, st, jn, bg, lv, k, lt, ls, la, lw) c T = (vo, qn_u st c 1, qn_u jn (4 * c + vo c) T, bg, lv, k + 1, qn_u lt k T, qn_u ls k (vs (4 * c + vo c)), qn_u la k 1, qn_u lw k 1) := if_pos h
theorem qm_go0 {vo st jn bg lv : Nat → Nat} {k : Nat} {lt ls : Nat → Nat} {la lw : Nat → Int} {c : Nat} (h : ¬ vo c < vc c) : qm_go vc vs (vo, st, jn, bg, lv, k, lt, ls, la, lw) c T = (vo, qn_u st c 3, jn, bg, qn_u lv c T, k, lt, ls, la, lw) := if_neg h
theorem qm_evh {m : qm_M} {E : Nat} (h : m.2.1 (E % 16) = 0 ∨ m.2.1 (E % 16) = 2) : qm_ev ar vn (qm_hd vc vs m E T) = qn_u (qm_ev ar vn m) (E % 16) 0 := by
  obtain ⟨vo, st, jn, bg, lv, k, lt, ls, la, lw⟩ := m
  have key : ∀ (vo' st' : Nat → Nat), (∀ d, d ≠ E % 16 → vo' d = vo d ∧ st' d = st d) → (st' (E % 16) = 1 ∨ st' (E % 16) = 3) → qi_ev ar vn vo' st' bg = qn_u (qi_ev ar vn vo st bg) (E % 16) 0 := by
    intro vo' st' h1 h2
    funext d
    by_cases e : d = E % 16
    · rw [e, qn_us]
      unfold qi_ev
      rcases h2 with w | w
      · rw [w]; simp
      · rw [w]; simp
    · rw [qn_un e]
      unfold qi_ev
      rw [(h1 d e).1, (h1 d e).2]
  unfold qm_hd
  by_cases e : E % 32 < 16
  · rw [if_pos e]
    show qm_ev ar vn (qm_go vc vs (qn_u vo (E % 16) (vo (E % 16) + 1), qn_u st (E % 16) 4, jn, bg, lv, k + 1, _, _, _, _) (E % 16) T) = _
    by_cases e2 : qn_u vo (E % 16) (vo (E % 16) + 1) (E % 16) < vc (E % 16)
    · rw [qm_go1 e2]
      exact key _ _ (fun d hd => ⟨qn_un hd, by rw [qn_un hd, qn_un hd]⟩) (Or.inl qn_us)
    · rw [qm_go0 e2]
      exact key _ _ (fun d hd => ⟨qn_un hd, by rw [qn_un hd, qn_un hd]⟩) (Or.inr qn_us)
  · rw [if_neg e]
    show qm_ev ar vn (qm_go vc vs (vo, qn_u st (E % 16) 4, jn, bg, lv, k, _, _, _, _) (E % 16) T) = _
    by_cases e2 : vo (E % 16) < vc (E % 16)
    · rw [qm_go1 e2]
      exact key _ _ (fun d hd => ⟨rfl, by rw [qn_un hd, qn_un hd]⟩) (Or.inl qn_us)
    · rw [qm_go0 e2]
      exact key _ _ (fun d hd => ⟨rfl, by rw [qn_un hd, qn_un hd]⟩) (Or.inr qn_us)
theorem qm_uh {m : qm_M} {E : Nat} (ok : qf_ok n sv ru ar vc vs vn) (I : qi_J n sv ar vc vs vn T 99 m) (hc : E % 16 < n) (h : (m.2.1 (E % 16) = 0 ∧ ¬ E % 32 < 16) ∨ (m.2.1 (E % 16) = 2 ∧ E % 32 < 16)) : qm_U vc (qm_hd vc vs m E T) = qm_U vc m - 1 := by
  obtain ⟨vo, st, jn, bg, lv, k, lt, ls, la, lw⟩ := m
  have I' : qi_I n sv ar vc vs vn T 99 vo st jn bg lv k lt ls la lw := I
  obtain ⟨q1, q2, q3, q4, q5, _⟩ := I'.2.1 (E % 16) hc
  have hn := ok.1
  have key : ∀ (vo' st' : Nat → Nat), (∀ d, d ≠ E % 16 → vo' d = vo d ∧ st' d = st d) → qi_u vc vo' st' (E % 16) = qi_u vc vo st (E % 16) - 1 → qs_I (qi_u vc vo' st') 12 = qs_I (qi_u vc vo st) 12 - 1 := by
    intro vo' st' h1 h2
    rw [qs_up (f := qi_u vc vo st) (c := E % 16) (by omega) (fun i _ hi => by unfold qi_u; rw [(h1 i hi).1, (h1 i hi).2]), h2]
    omega
  unfold qm_hd
  rcases h with ⟨h0, h1⟩ | ⟨h0, h1⟩
  · have h0' : st (E % 16) = 0 := h0
    have hvo := (q3 h0').1
    rw [if_neg h1]
    show qm_U vc (qm_go vc vs (vo, qn_u st (E % 16) 4, jn, bg, lv, k, _, _, _, _) (E % 16) T) = _
    by_cases e2 : vo (E % 16) < vc (E % 16)
    · rw [qm_go1 e2]
      refine key _ _ (fun d hd => ⟨rfl, by rw [qn_un hd, qn_un hd]⟩) ?_
      unfold qi_u
      rw [qn_us, h0', hvo]
      simp
    · rw [qm_go0 e2]
      refine key _ _ (fun d hd => ⟨rfl, by rw [qn_un hd, qn_un hd]⟩) ?_
      unfold qi_u
      rw [qn_us, h0']
      simp
      omega
  · have h0' : st (E % 16) = 2 := h0
    have hvo := (q5 h0').1
    rw [if_pos h1]
    show qm_U vc (qm_go vc vs (qn_u vo (E % 16) (vo (E % 16) + 1), qn_u st (E % 16) 4, jn, bg, lv, k + 1, _, _, _, _) (E % 16) T) = _
    by_cases e2 : qn_u vo (E % 16) (vo (E % 16) + 1) (E % 16) < vc (E % 16)
    · rw [qm_go1 e2]
      refine key _ _ (fun d hd => ⟨qn_un hd, by rw [qn_un hd, qn_un hd]⟩) ?_
      unfold qi_u
      rw [qn_us, qn_us, h0']
      simp
      omega
    · rw [qm_go0 e2]
      rw [qn_us] at e2
      refine key _ _ (fun d hd => ⟨qn_un hd, by rw [qn_un hd, qn_un hd]⟩) ?_
      unfold qi_u
      rw [qn_us, h0']
      simp
      omega
/-- a pending event: whose, and that something is to come -/
theorem qm_pend {m : qm_M} {x : Nat} (ok : qf_ok n sv ru ar vc vs vn) (I : qi_J n sv ar vc vs vn T 99 m) (hx : x < n) (h : qm_ev ar vn m x ≠ 0) :
    qm_ev ar vn m x % 16 = x ∧ T ≤ qm_ev ar vn m x / 32 ∧ qm_ev ar vn m x / 32 ≤ 100 + 30 * m.2.2.2.2.2.1 ∧ ((m.2.1 x = 0 ∧ ¬ qm_ev ar vn m x % 32 < 16 ∧ qm_ev ar vn m x / 32 = ar x) ∨ (m.2.1 x = 2 ∧ qm_ev ar vn m x % 32 < 16 ∧ qm_ev ar vn m x / 32 = m.2.2.2.1 (4 * x + m.1 x) + vn (4 * x + m.1 x))) ∧ 1 ≤ qm_U vc m := by
  obtain ⟨vo, st, jn, bg, lv, k, lt, ls, la, lw⟩ := m
  have I' : qi_I n sv ar vc vs vn T 99 vo st jn bg lv k lt ls la lw := I
  obtain ⟨q1, q2, q3, q4, q5, _⟩ := I'.2.1 x hx
  have hn := ok.1
  have har := (ok.2.2.1 x hx).1
  have hnn : ∀ c, c < 12 → 0 ≤ qi_u vc vo st c := by
    intro c _
    unfold qi_u
    rcases Nat.lt_or_ge c n with w | w
    · have := (I'.2.1 c w).2.1
      split
      · omega
      · split <;> omega
    · rw [(I'.1 c w).1]; simp
  have hge := qs_ge (f := qi_u vc vo st) (c := x) (k := 12) (by omega) hnn
  have h' : qi_ev ar vn vo st bg x ≠ 0 := h
  show qi_ev ar vn vo st bg x % 16 = x ∧ T ≤ qi_ev ar vn vo st bg x / 32 ∧ qi_ev ar vn vo st bg x / 32 ≤ 100 + 30 * k ∧ ((st x = 0 ∧ ¬ qi_ev ar vn vo st bg x % 32 < 16 ∧ qi_ev ar vn vo st bg x / 32 = ar x) ∨ (st x = 2 ∧ qi_ev ar vn vo st bg x % 32 < 16 ∧ qi_ev ar vn vo st bg x / 32 = bg (4 * x + vo x) + vn (4 * x + vo x))) ∧ 1 ≤ qs_I (qi_u vc vo st) 12
  unfold qi_ev at h' ⊢
  by_cases e1 : st x = 0
  · rw [if_pos e1]
    have := (q3 e1).2
    have hux : qi_u vc vo st x = (vc x : Int) + 1 := if_pos e1
    rw [hux] at hge
    exact ⟨by omega, by omega, by omega, Or.inl ⟨e1, by omega, by omega⟩, by omega⟩
  · rw [if_neg e1] at h' ⊢
    by_cases e2 : st x = 2
    · rw [if_pos e2]
      obtain ⟨w1, w2, w3, w4, w5, w6⟩ := q5 e2
      have hux : qi_u vc vo st x = (vc x : Int) - (vo x : Int) := by
        unfold qi_u
        rw [if_neg e1, if_pos (Or.inr e2)]
      rw [hux] at hge
      exact ⟨by omega, by omega, by omega, Or.inr ⟨e2, by omega, by omega⟩, by omega⟩
    · rw [if_neg e2] at h'
      exact absurd rfl h'
theorem qm_evn {m : qm_M} {c : Nat} (I : qi_J n sv ar vc vs vn T 99 m) (h : qm_ev ar vn m c ≠ 0) : c < n := by
  obtain ⟨vo, st, jn, bg, lv, k, lt, ls, la, lw⟩ := m
  have I' : qi_I n sv ar vc vs vn T 99 vo st jn bg lv k lt ls la lw := I
  rcases Nat.lt_or_ge c n with w | w
  · exact w
  · exfalso
    apply h
    show qi_ev ar vn vo st bg c = 0
    unfold qi_ev
    rw [(I'.1 c w).1]; simp
theorem qm_tick {m : qm_M} {T' : Nat} (ok : qf_ok n sv ru ar vc vs vn) (I : qi_J n sv ar vc vs vn T 99 m) (hK : ∀ s, s < 4 → qm_K sv vs m s) (hL : qe_L (qm_ev ar vn m) T') : qi_J n sv ar vc vs vn (T' / 32) 99 m ∧ T ≤ T' / 32 := by
  have hn := ok.1
  obtain ⟨h0, ⟨x, hx, hxe⟩, hmin⟩ := hL
  have hxn := qm_evn I (c := x) (by omega)
  obtain ⟨p1, p2, p3, p4, p5⟩ := qm_pend ok I hxn (by omega)
  rw [hxe] at p2 p3
  refine ⟨?_, p2⟩
  obtain ⟨vo, st, jn, bg, lv, k, lt, ls, la, lw⟩ := m
  refine qi_tick ok I hK p2 p3 (fun c hc h => ?_) (fun c hc h => ?_)
  · have := hmin c
    have e : qm_ev ar vn (vo, st, jn, bg, lv, k, lt, ls, la, lw) c = 32 * ar c + 16 + c := by
      show qi_ev ar vn vo st bg c = _
      unfold qi_ev
      rw [if_pos h]
    rw [e] at this
    have := this (by omega)
    omega
  · have := hmin c
    have e : qm_ev ar vn (vo, st, jn, bg, lv, k, lt, ls, la, lw) c = 32 * (bg (4 * c + vo c) + vn (4 * c + vo c)) + c := by
      show qi_ev ar vn vo st bg c = _
      unfold qi_ev
      rw [if_neg (by omega), if_pos h]
    have hv := (I.2.1 c hc).2.2.2.2.1 h
    have hw := ok.2.2.2 c (vo c) hc hv.1
    rw [e] at this
    have := this (by omega)
    omega
theorem qm_in1 {m : qm_M} {w : Nat} : qm_in ar vc vs vn T (w + 1) m = if qe_m (qm_ev ar vn m) 12 = 0 then m else if qe_m (qm_ev ar vn m) 12 / 32 = T then qm_in ar vc vs vn T w (qm_hd vc vs m (qe_m (qm_ev ar vn m) 12) T) else m := rfl
theorem qm_out1 {m : qm_M} {w : Nat} : qm_out sv ru ar vc vs vn (w + 1) m = if qe_m (qm_ev ar vn m) 12 = 0 then m else qm_out sv ru ar vc vs vn w (qm_all sv ru vs vn (qe_m (qm_ev ar vn m) 12 / 32) 4 (qm_in ar vc vs vn (qe_m (qm_ev ar vn m) 12 / 32) 64 m)) := rfl
/-- the events of one time -/
theorem qw_in {post : St1 → Prop} {J : Int32 → Int32 → Int32 → Int32 → Int32 → Int32 → Int32 → (Nat → Int32) → (Nat → Int32) → (Nat → Int32) → (Nat → Int32) → (Nat → Int32) → (Nat → Int32) → (Nat → Int32) → (Nat → Int32) → (Nat → Int32) → (Nat → Int32) → (Nat → Int32) → (Nat → Int32) → (Nat → Int32) → (Nat → Int32) → (Nat → Int32) → (Nat → Int32) → (Nat → Int32) → (Nat → Int32) → (Nat → Int32) → (Nat → Int32) → (Nat → Int32) → (Nat → Int32) → (Nat → Int32) → (Nat → Int32) → (Nat → Int32) → (Nat → Int32) → (Nat → Int32) → Prop} {cu en : Int32} {a1 a2 a3 a4 a5 a6 a8 a10 a11 a12 : Nat → Int32} {e : Nat} (ok : qf_ok n sv ru ar vc vs vn) (F : qf_R n sv ru ar vc vs vn cu a1 a2 a3 a4 a5 a6) (he : en = nI e) :
    ∀ (w : Nat) (m : qm_M) (lb : Nat) (ch pe td rt lk : Int32) (a7 a9 a13 a14 a15 a16 a17 a18 a19 a20 a21 a22 a23 a24 a25 a26 a27 : Nat → Int32), qi_J n sv ar vc vs vn T 99 m → qr_J n sv vs m ch a7 a8 a9 a13 a14 a15 a16 a17 a18 a19 → qq_R e pe td rt lk a20 a21 a22 a23 a24 a25 a27 (qm_ev ar vn m) lb → lb < 32 * (T + 1) → qm_U vc m ≤ (w : Int) →
    (∀ (m1 : qm_M) (lb : Nat) (ch pe td rt lk : Int32) (a7 a9 a13 a14 a15 a16 a17 a18 a19 a20 a21 a22 a23 a24 a25 a26 a27 : Nat → Int32), m1 = qm_in ar vc vs vn T w m → qi_J n sv ar vc vs vn T 99 m1 → qr_J n sv vs m1 ch a7 a8 a9 a13 a14 a15 a16 a17 a18 a19 → qq_R e pe td rt lk a20 a21 a22 a23 a24 a25 a27 (qm_ev ar vn m1) lb → lb < 32 * (T + 1) → qm_U vc m1 ≤ qm_U vc m → (qe_m (qm_ev ar vn m) 12 ≠ 0 → qe_m (qm_ev ar vn m) 12 / 32 = T → qm_U vc m1 < qm_U vc m) → ∃ fu, wX_run_130 post J (nI T) fu 0 cu ch en pe td rt lk a1 a2 a3 a4 a5 a6 a7 a8 a9 a10 a11 a12 a13 a14 a15 a16 a17 a18 a19 a20 a21 a22 a23 a24 a25 a26 a27) →
    wX_run_99 post J (nI T) (w + 1) cu ch en pe td rt lk a1 a2 a3 a4 a5 a6 a7 a8 a9 a10 a11 a12 a13 a14 a15 a16 a17 a18 a19 a20 a21 a22 a23 a24 a25 a26 a27 := by
  have hn := ok.1
  intro w
  induction w with
  | zero =>
    intro m lb ch pe td rt lk a7 a9 a13 a14 a15 a16 a17 a18 a19 a20 a21 a22 a23 a24 a25 a26 a27 I R Q hlb hU H
    have hz : ∀ c, qm_ev ar vn m c = 0 := by
      intro c
      rcases Nat.eq_zero_or_pos (qm_ev ar vn m c) with y | y
      · exact y
      · have := (qm_pend ok I (qm_evn I (c := c) (by omega)) (by omega)).2.2.2.2
        omega
    have hcnt : qe_n (qm_ev ar vn m) 12 = 0 := by
      rcases Nat.eq_zero_or_pos (qe_n (qm_ev ar vn m) 12) with y | y
      · exact y
      · obtain ⟨c, _, hc⟩ := qe_some y
        exact absurd (hz c) hc
    have hmz : qe_m (qm_ev ar vn m) 12 = 0 := by
      rcases Nat.eq_zero_or_pos (qe_m (qm_ev ar vn m) 12) with y | y
      · exact y
      · obtain ⟨⟨c, _, hc⟩, _⟩ := qe_m1 (ev := qm_ev ar vn m) (k := 12) (by omega)
        have := hz c
        omega
    have hpe : pe = nI 0 := by rw [← hcnt]; exact Q.2.1
    refine br_t (by rw [hpe]; exact Int32.le_refl _) (H m lb _ _ _ _ _ _ _ _ _ _ _ _ _ _ _ _ _ _ _ _ _ _ rfl I R Q hlb (Int.le_refl _) (fun y => absurd hmz y))
  | succ w ih =>
    intro m lb ch pe td rt lk a7 a9 a13 a14 a15 a16 a17 a18 a19 a20 a21 a22 a23 a24 a25 a26 a27 I R Q hlb hU H
    have okE := Q.1
    have hpe := Q.2.1
    have hle := qe_nle (qm_ev ar vn m) 12
    have stop : qm_in ar vc vs vn T (w + 1) m = m → (qe_m (qm_ev ar vn m) 12 ≠ 0 → qe_m (qm_ev ar vn m) 12 / 32 = T → False) → ∃ fu, wX_run_130 post J (nI T) fu 0 cu ch en pe td rt lk a1 a2 a3 a4 a5 a6 a7 a8 a9 a10 a11 a12 a13 a14 a15 a16 a17 a18 a19 a20 a21 a22 a23 a24 a25 a26 a27 := by
      intro hh hno
      exact H m lb _ _ _ _ _ _ _ _ _ _ _ _ _ _ _ _ _ _ _ _ _ _ hh.symm I R Q hlb (Int.le_refl _) (fun y1 y2 => absurd y2 (fun y3 => hno y1 y3))
    refine pk_le (qe_n (qm_ev ar vn m) 12) 0 (fun z => ?_) (fun z => ?_) hpe
    · have hmz : qe_m (qm_ev ar vn m) 12 = 0 := by
        rcases Nat.eq_zero_or_pos (qe_m (qm_ev ar vn m) 12) with y | y
        · exact y
        · obtain ⟨⟨c, hc12, hc⟩, _⟩ := qe_m1 (ev := qm_ev ar vn m) (k := 12) (by omega)
          have := qe_npos (ev := qm_ev ar vn m) hc12 (by omega)
          omega
      refine stop ?_ (fun y => absurd hmz y)
      rw [qm_in1, if_pos hmz]
    · obtain ⟨c0, _, hc0⟩ := qe_some z
      refine qq_next he Q ⟨c0, hc0⟩ (fun x hL hx20 => ?_)
      have hmx := qe_mL okE hL
      refine pk_eq (x / 32) T (fun y => ?_) (fun y => ?_) rfl rfl (by omega) (by have := hL.1; have h2 : T ≤ 4420 := (by obtain ⟨vo, st, jn, bg, lv, k, lt, ls, la, lw⟩ := m; exact qi_T ok I); omega)
      · refine qq_take he Q ⟨c0, hc0⟩ (fun x' pe' td' rt' lk' a20' a21' a22' a23' a24' a25' a26' a27' hL' hx' Q' => ?_)
        have hxx : x' = x := by rw [← qe_mL okE hL', hmx]
        subst hxx
        obtain ⟨x0, ⟨c, hc12, hcx⟩, hmin⟩ := hL
        have hcn := qm_evn I (c := c) (by omega)
        obtain ⟨p1, p2, p3, p4, p5⟩ := qm_pend ok I hcn (by omega)
        rw [hcx] at p1 p2 p3 p4
        have hxc : x' % 16 < n := by rw [p1]; exact hcn
        have hst : (m.2.1 (x' % 16) = 0 ∧ ¬ x' % 32 < 16) ∨ (m.2.1 (x' % 16) = 2 ∧ x' % 32 < 16) := by
          rw [p1]
          rcases p4 with v | v
          · exact Or.inl ⟨v.1, v.2.1⟩
          · exact Or.inr ⟨v.1, v.2.1⟩
        have hst2 : m.2.1 (x' % 16) = 0 ∨ m.2.1 (x' % 16) = 2 := by
          rcases hst with v | v
          · exact Or.inl v.1
          · exact Or.inr v.1
        have hin : qm_in ar vc vs vn T (w + 1) m = qm_in ar vc vs vn T w (qm_hd vc vs m x' T) := by
          rw [qm_in1, hmx, if_neg x0, if_pos y]
        have hUh := qm_uh (T := T) ok I hxc hst
        refine qw_hd ok F I R hx' hxc (by rw [p1]; exact hcx) x0 y (fun ch' a7' a9' a13' a14' a15' a16' a17' a18' a19' I' R' => ?_)
        rw [← qm_evh (vc := vc) (vs := vs) (T := T) hst2] at Q'
        refine ih (qm_hd vc vs m x' T) x' _ _ _ _ _ _ _ _ _ _ _ _ _ _ _ _ _ _ _ _ _ _ I' R' Q' (by omega) (by omega) ?_
        intro m1 lb'' ch'' pe'' td'' rt'' lk'' a7'' a9'' a13'' a14'' a15'' a16'' a17'' a18'' a19'' a20'' a21'' a22'' a23'' a24'' a25'' a26'' a27'' hm1 I'' R'' Q'' hlb'' hU'' _
        exact H m1 lb'' _ _ _ _ _ _ _ _ _ _ _ _ _ _ _ _ _ _ _ _ _ _ (hm1.trans hin.symm) I'' R'' Q'' hlb'' (by omega) (fun _ _ => by omega)
      · refine stop ?_ (fun _ y2 => y (by rw [← hmx]; exact y2))
        rw [qm_in1, hmx, if_neg hL.1, if_neg y]
def qm_F (n : Nat) (sv ar vc vs vn : Nat → Nat) (m : qm_M) : Prop := ∃ T, qi_J n sv ar vc vs vn T 99 m ∧ (∀ s, s < 4 → qm_K sv vs m s) ∧ ∀ c, qm_ev ar vn m c = 0
theorem qw_out {post : St1 → Prop} {cu en : Int32} {a1 a2 a3 a4 a5 a6 a10 a11 a12 : Nat → Int32} {e : Nat} (ok : qf_ok n sv ru ar vc vs vn) (F : qf_R n sv ru ar vc vs vn cu a1 a2 a3 a4 a5 a6) (he : en = nI e) :
    ∀ (w : Nat) (m : qm_M) (T lb : Nat) (ch pe td rt lk : Int32) (a7 a8 a9 a13 a14 a15 a16 a17 a18 a19 a20 a21 a22 a23 a24 a25 a26 a27 : Nat → Int32), qi_J n sv ar vc vs vn T 99 m → (∀ s, s < 4 → qm_K sv vs m s) → qr_J n sv vs m ch a7 a8 a9 a13 a14 a15 a16 a17 a18 a19 → qq_R e pe td rt lk a20 a21 a22 a23 a24 a25 a27 (qm_ev ar vn m) lb → lb < 32 * (T + 1) → qm_U vc m ≤ (w : Int) → qm_U vc m ≤ 64 →
    (∀ (m1 : qm_M) (ch pe td rt lk : Int32) (a7 a8 a9 a13 a14 a15 a16 a17 a18 a19 a20 a21 a22 a23 a24 a25 a26 a27 : Nat → Int32), m1 = qm_out sv ru ar vc vs vn w m → qm_F n sv ar vc vs vn m1 → qr_J n sv vs m1 ch a7 a8 a9 a13 a14 a15 a16 a17 a18 a19 → post (cu, ch, en, pe, td, rt, lk, a1, a2, a3, a4, a5, a6, a7, a8, a9, a10, a11, a12, a13, a14, a15, a16, a17, a18, a19, a20, a21, a22, a23, a24, a25, a26, a27)) →
    wX_run_87 post (w + 1) cu ch en pe td rt lk a1 a2 a3 a4 a5 a6 a7 a8 a9 a10 a11 a12 a13 a14 a15 a16 a17 a18 a19 a20 a21 a22 a23 a24 a25 a26 a27 := by
  have hn := ok.1
  intro w
  induction w with
  | zero =>
    intro m T lb ch pe td rt lk a7 a8 a9 a13 a14 a15 a16 a17 a18 a19 a20 a21 a22 a23 a24 a25 a26 a27 I K R Q hlb hU _ H
    have hz : ∀ c, qm_ev ar vn m c = 0 := by
      intro c
      rcases Nat.eq_zero_or_pos (qm_ev ar vn m c) with y | y
      · exact y
      · have := (qm_pend ok I (qm_evn I (c := c) (by omega)) (by omega)).2.2.2.2
        omega
    have hcnt : qe_n (qm_ev ar vn m) 12 = 0 := by
      rcases Nat.eq_zero_or_pos (qe_n (qm_ev ar vn m) 12) with y | y
      · exact y
      · obtain ⟨c, _, hc⟩ := qe_some y
        exact absurd (hz c) hc
    have hpe : pe = nI 0 := by rw [← hcnt]; exact Q.2.1
    exact br_t (by rw [hpe]; exact Int32.le_refl _) (H m _ _ _ _ _ _ _ _ _ _ _ _ _ _ _ _ _ _ _ _ _ _ _ rfl ⟨T, I, K, hz⟩ R)
  | succ w ih =>
    intro m T lb ch pe td rt lk a7 a8 a9 a13 a14 a15 a16 a17 a18 a19 a20 a21 a22 a23 a24 a25 a26 a27 I K R Q hlb hU hU64 H
    have okE := Q.1
    have hpe := Q.2.1
    have hle := qe_nle (qm_ev ar vn m) 12
    refine pk_le (qe_n (qm_ev ar vn m) 12) 0 (fun z => ?_) (fun z => ?_) hpe
    · have hz : ∀ c, qm_ev ar vn m c = 0 := by
        intro c
        rcases Nat.eq_zero_or_pos (qm_ev ar vn m c) with y | y
        · exact y
        · have := qe_npos (ev := qm_ev ar vn m) (k := 12) (okE c (by omega)).1 (by omega)
          omega
      have hmz : qe_m (qm_ev ar vn m) 12 = 0 := by
        rcases Nat.eq_zero_or_pos (qe_m (qm_ev ar vn m) 12) with y | y
        · exact y
        · obtain ⟨⟨c, hc12, hc⟩, _⟩ := qe_m1 (ev := qm_ev ar vn m) (k := 12) (by omega)
          have := hz c
          omega
      have hh : qm_out sv ru ar vc vs vn (w + 1) m = m := by rw [qm_out1, if_pos hmz]
      exact H m _ _ _ _ _ _ _ _ _ _ _ _ _ _ _ _ _ _ _ _ _ _ _ hh.symm ⟨T, I, K, hz⟩ R
    · obtain ⟨c0, _, hc0⟩ := qe_some z
      refine qq_next he Q ⟨c0, hc0⟩ (fun x hL hx20 => ?_)
      have hmx := qe_mL okE hL
      obtain ⟨I', hTT⟩ := qm_tick ok I K hL
      have hh : qm_out sv ru ar vc vs vn (w + 1) m = qm_out sv ru ar vc vs vn w (qm_all sv ru vs vn (x / 32) 4 (qm_in ar vc vs vn (x / 32) 64 m)) := by
        rw [qm_out1, hmx, if_neg hL.1]
      refine Exists.intro 65 (qw_in ok F he 64 m lb _ _ _ _ _ _ _ _ _ _ _ _ _ _ _ _ _ _ _ _ _ _ I' R Q (by omega) (by omega) (fun m1 lb' ch' pe' td' rt' lk' a7' a9' a13' a14' a15' a16' a17' a18' a19' a20' a21' a22' a23' a24' a25' a26' a27' hm1 I2 R2 Q2 hlb2 hU2 hU3 => Exists.intro 5 ?_))
      refine qw_all (m := m1) ok F he hlb2 (fun m2 ch'' pe'' rt'' a8'' a13'' a14'' a15'' a16'' a18'' a19'' a20'' a21'' a22'' a23'' a24'' a25'' a27'' hm2 I3 R3 Q3 K3 U3 => ?_) 4 0 _ _ _ _ _ _ _ _ _ _ _ _ _ _ _ _ _ rfl I2 R2 Q2 (fun s hs => absurd hs (by omega)) rfl
      have hlt := hU3 (by rw [hmx]; exact hL.1) (by rw [hmx])
      refine ih m2 (x / 32) lb' _ _ _ _ _ _ _ _ _ _ _ _ _ _ _ _ _ _ _ _ _ _ _ I3 K3 R3 Q3 hlb2 (by omega) (by omega) ?_
      intro m3 ch4 pe4 td4 rt4 lk4 a74 a84 a94 a134 a144 a154 a164 a174 a184 a194 a204 a214 a224 a234 a244 a254 a264 a274 hm3 F4 R4
      exact H m3 _ _ _ _ _ _ _ _ _ _ _ _ _ _ _ _ _ _ _ _ _ _ _ (by rw [hh, hm3, hm2, hm1]) F4 R4
end
end
section
section
variable {n : Nat} {sv ru ar vc vs vn : Nat → Nat}
theorem qm_i0 (ok : qf_ok n sv ru ar vc vs vn) : qi_J n sv ar vc vs vn 0 99 (qm_0 n) := by
  have hst : ∀ c, (if c < n then 0 else 3) ≠ 1 ∧ (if c < n then 0 else 3) ≠ 2 ∧ (if c < n then 0 else 3) ≠ 4 := by
    intro c
    by_cases e : c < n
    · rw [if_pos e]; omega
    · rw [if_neg e]; omega
  have hw : ∀ s c, qi_w vs (fun _ => 0) (fun c => if c < n then 0 else 3) s c = 0 := by
    intro s c
    unfold qi_w
    rw [if_neg (fun w => (hst c).1 w.1)]
  have hb : ∀ s c, qi_b vs (fun _ => 0) (fun c => if c < n then 0 else 3) s c = 0 := by
    intro s c
    unfold qi_b
    rw [if_neg (fun w => (hst c).2.1 w.1)]
  refine ⟨fun c hc => ⟨if_neg (by omega), rfl⟩, fun c hc => ?_, by omega, fun i hi => absurd hi (by omega), fun i j _ hj => absurd hj (by omega), ?_, fun s hs => ⟨?_, ?_, ?_⟩, fun s p hs hp => ?_, fun s t hs ht => absurd ht (by omega), fun s hs => ?_⟩
  · refine ⟨Or.inl (if_pos hc), Nat.zero_le _, fun _ => ⟨rfl, Nat.zero_le _⟩, fun w => absurd w (hst c).1, fun w => absurd w (hst c).2.1, fun w => ?_, fun w => absurd w (hst c).2.2, fun k hk => absurd hk (Nat.not_lt_zero k)⟩
    have w' : (if c < n then 0 else 3) = 3 := w
    rw [if_pos hc] at w'
    omega
  · symm
    refine qs_0 (fun c _ => ?_)
    unfold qi_k
    rw [if_neg (hst c).1, if_neg (hst c).2.1]
    rfl
  · rw [qs_0 (fun c _ => hw s c), qs_0 (fun c _ => hb s c)]; rfl
  · rw [qs_0 (fun c _ => hw s c)]; rfl
  · rw [qs_0 (fun c _ => hb s c)]; omega
  · rw [show p = 0 by omega]; exact ⟨Int.le_refl _, Int.le_refl _⟩
  · symm
    refine qs_0 (fun v _ => ?_)
    unfold qi_v
    by_cases e : vs v = s
    · rw [if_pos e, if_neg (Nat.not_lt_zero _), if_neg (fun w => ?_)]
      rcases w.2 with y | y
      · exact (hst _).1 y
      · exact (hst _).2.1 y
    · rw [if_neg e]
theorem qm_k0 (s : Nat) : qm_K sv vs (qm_0 n) s := by
  refine Or.inr (qs_0 (fun c _ => ?_))
  unfold qi_w
  by_cases e : c < n
  · rw [if_neg (fun w => ?_)]
    have w' : (if c < n then 0 else 3) = 1 := w.1
    rw [if_pos e] at w'
    omega
  · rw [if_neg (fun w => ?_)]
    have w' : (if c < n then 0 else 3) = 1 := w.1
    rw [if_neg e] at w'
    omega
theorem qm_u0 (ok : qf_ok n sv ru ar vc vs vn) : qm_U vc (qm_0 n) ≤ 64 := by
  have h := qs_cst (f := qi_u vc (fun _ => 0) (fun c => if c < n then 0 else 3)) (b := 5) (k := 12) (fun c _ => by
    unfold qi_u
    by_cases e : c < n
    · have := (ok.2.2.1 c e).2
      rw [if_pos (if_pos e)]; omega
    · rw [if_neg (show ¬ (if c < n then 0 else 3) = 0 by rw [if_neg e]; omega), if_neg (show ¬ ((if c < n then 0 else 3) = 1 ∨ (if c < n then 0 else 3) = 2) by rw [if_neg e]; omega)]; omega)
  show qs_I (qi_u vc (fun _ => 0) (fun c => if c < n then 0 else 3)) 12 ≤ 64
  omega
theorem qm_r0 {a7 a8 a9 a13 a14 a15 a16 a17 a18 a19 : Nat → Int32} (ok : qf_ok n sv ru ar vc vs vn) (h17 : ∀ c, c < n → a17 c = nI 0) (h18 : ∀ s, s < 4 → a18 s = 0 ∧ a19 s = nI (sv s)) : qr_J n sv vs (qm_0 n) 0 a7 a8 a9 a13 a14 a15 a16 a17 a18 a19 := by
  have hst : ∀ c, (if c < n then 0 else 3) ≠ 1 ∧ (if c < n then 0 else 3) ≠ 2 := by
    intro c
    by_cases e : c < n
    · rw [if_pos e]; omega
    · rw [if_neg e]; omega
  refine ⟨rfl, h17, fun s i hs hi => ?_, fun s hs => ⟨sv s, (ok.2.1 s hs).2.1, (h18 s hs).2, ?_⟩, fun c k hc h => ?_, fun c k hc h => ?_, fun c hc h => ?_, fun i hi => absurd hi (by omega)⟩
  · rw [(h18 s hs).1, qz_0, decide_eq_false (fun w => (hst i).1 w.1)]
  · rw [qs_0 (fun c _ => ?_)]
    · omega
    · unfold qi_b
      rw [if_neg (fun w => (hst c).2 w.1)]
  · rcases h with w | w
    · exact absurd w (Nat.not_lt_zero k)
    · rcases w.2 with y | y
      · exact absurd y (hst c).1
      · exact absurd y (hst c).2
  · rcases h with w | w
    · exact absurd w (Nat.not_lt_zero k)
    · exact absurd w.2 (hst c).2
  · have h' : (if c < n then 0 else 3) = 3 := h
    rw [if_pos hc] at h'
    omega
theorem qw_48 {post : St1 → Prop} {cu en td lk : Int32} {a1 a2 a3 a4 a5 a6 a7 a8 a9 a10 a11 a12 a13 a14 a15 a16 a18 a19 a26 : Nat → Int32} {e : Nat} (ok : qf_ok n sv ru ar vc vs vn) (F : qf_R n sv ru ar vc vs vn cu a1 a2 a3 a4 a5 a6) (he : en = nI e) (h18 : ∀ s, s < 4 → a18 s = 0 ∧ a19 s = nI (sv s))
    (H : ∀ (ch pe td rt lk : Int32) (a7 a8 a9 a13 a14 a15 a16 a17 a18 a19 a20 a21 a22 a23 a24 a25 a26 a27 : Nat → Int32), qm_F n sv ar vc vs vn (qm_sim n sv ru ar vc vs vn) → qr_J n sv vs (qm_sim n sv ru ar vc vs vn) ch a7 a8 a9 a13 a14 a15 a16 a17 a18 a19 → post (cu, ch, en, pe, td, rt, lk, a1, a2, a3, a4, a5, a6, a7, a8, a9, a10, a11, a12, a13, a14, a15, a16, a17, a18, a19, a20, a21, a22, a23, a24, a25, a26, a27)) :
    ∀ (f i : Nat) (pe rt : Int32) (a17 a20 a21 a22 a23 a24 a25 a27 : Nat → Int32), i + f = n → qq_R e pe td rt lk a20 a21 a22 a23 a24 a25 a27 (fun c => if c < i then 32 * ar c + 16 + c else 0) 0 → (∀ c, c < i → a17 c = nI 0) → wX_run_48 post (f + 1) (nI i) cu 0 en pe td rt lk a1 a2 a3 a4 a5 a6 a7 a8 a9 a10 a11 a12 a13 a14 a15 a16 a17 a18 a19 a20 a21 a22 a23 a24 a25 a26 a27 := by
  have hn := ok.1
  have hcu := F.1
  intro f
  induction f with
  | zero =>
    intro i pe rt a17 a20 a21 a22 a23 a24 a25 a27 hi Q h17
    have hin : i = n := by omega
    subst hin
    have hev : (fun c => if c < i then 32 * ar c + 16 + c else 0) = qm_ev ar vn (qm_0 i) := by
      funext c
      show _ = qi_ev ar vn (fun _ => 0) (fun c => if c < i then 0 else 3) (fun _ => 0) c
      unfold qi_ev
      by_cases e1 : c < i
      · rw [if_pos e1, if_pos (if_pos e1)]
      · rw [if_neg e1, if_neg (show ¬ (if c < i then 0 else 3) = 0 by rw [if_neg e1]; omega), if_neg (show ¬ (if c < i then 0 else 3) = 2 by rw [if_neg e1]; omega)]
    rw [hev] at Q
    have hu := qm_u0 ok
    refine br_t (by rw [hcu]; exact Int32.le_refl _) (Exists.intro 65 (qw_out ok F he 64 (qm_0 i) 0 0 _ _ _ _ _ _ _ _ _ _ _ _ _ _ _ _ _ _ _ _ _ _ _ (qm_i0 ok) (fun s _ => qm_k0 s) (qm_r0 ok h17 h18) Q (by omega) hu hu (fun m1 ch pe td rt lk a7 a8 a9 a13 a14 a15 a16 a17 a18 a19 a20 a21 a22 a23 a24 a25 a26 a27 hm1 hF hR => ?_)))
    rw [← qm_seq] at hm1
    rw [hm1] at hF hR
    exact H _ _ _ _ _ _ _ _ _ _ _ _ _ _ _ _ _ _ _ _ _ _ _ hF hR
  | succ f ih =>
    intro i pe rt a17 a20 a21 a22 a23 a24 a25 a27 hi Q h17
    have hil : i < n := by omega
    have har := (ok.2.2.1 i hil).1
    have hcl : (nI i).toNatClampNeg = i := qn_cl (by omega)
    refine br_f (by rw [hcu]; exact nI_ge hil (by omega)) ⟨pk_in i 12 (by omega), nm_e ⟨pk_in i 12 (by omega), ?_⟩⟩
    have hE : ((32 * nI (ar i)) + 16) + nI i = nI (32 * ar i + 16 + i) := by
      rw [show (32 : Int32) = nI 32 from rfl, pk_mul, show (16 : Int32) = nI 16 from rfl, nI_add, nI_add]
    have hEm : (32 * ar i + 16 + i) % 16 = i := by omega
    rw [hcl, (F.2.2.1 i hil).1, hE]
    refine qq_add he Q ⟨by omega, by omega, by omega, ?_⟩ (by omega) (fun pe' rt' a20' a21' a22' a23' a24' a25' a27' Q' => nm_r (nI_1 i) (ih (i + 1) _ _ _ _ _ _ _ _ _ _ (by omega) ?_ (fun c hc => ?_)))
    · rw [hEm]; exact if_neg (by omega)
    · rw [hEm] at Q'
      have hev : qn_u (fun c => if c < i then 32 * ar c + 16 + c else 0) i (32 * ar i + 16 + i) = (fun c => if c < i + 1 then 32 * ar c + 16 + c else 0) := by
        funext c
        by_cases e1 : c = i
        · rw [e1, qn_us, if_pos (by omega)]
        · rw [qn_un e1]
          by_cases e2 : c < i
          · rw [if_pos e2, if_pos (by omega)]
          · rw [if_neg e2, if_neg (by omega)]
      rw [hev] at Q'
      exact Q'
    · by_cases e1 : c = i
      · rw [e1, pk_us]; rfl
      · rw [pk_un e1]; exact h17 c (by omega)
/-- a run: it ends, what came out is the model's, whatever the engine -/
theorem qw_run {post : St1 → Prop} {cu ch en pe td rt lk : Int32} {a1 a2 a3 a4 a5 a6 a7 a8 a9 a10 a11 a12 a13 a14 a15 a16 a17 a18 a19 a20 a21 a22 a23 a24 a25 a26 a27 : Nat → Int32} {e : Nat} (ok : qf_ok n sv ru ar vc vs vn) (F : qf_R n sv ru ar vc vs vn cu a1 a2 a3 a4 a5 a6) (he : e < 4)
    (H : ∀ (ch en pe td rt lk : Int32) (a7 a8 a9 a13 a14 a15 a16 a17 a18 a19 a20 a21 a22 a23 a24 a25 a26 a27 : Nat → Int32), qm_F n sv ar vc vs vn (qm_sim n sv ru ar vc vs vn) → qr_J n sv vs (qm_sim n sv ru ar vc vs vn) ch a7 a8 a9 a13 a14 a15 a16 a17 a18 a19 → post (cu, ch, en, pe, td, rt, lk, a1, a2, a3, a4, a5, a6, a7, a8, a9, a10, a11, a12, a13, a14, a15, a16, a17, a18, a19, a20, a21, a22, a23, a24, a25, a26, a27)) : wpX_run post (cu, ch, en, pe, td, rt, lk, a1, a2, a3, a4, a5, a6, a7, a8, a9, a10, a11, a12, a13, a14, a15, a16, a17, a18, a19, a20, a21, a22, a23, a24, a25, a26, a27) (nI e) := by
  have hn := ok.1
  refine qq_start (pe := pe) (td := td) (rt := rt) (lk := lk) (fun a21' a27' h21 h27 => ?_)
  refine pk_loop (σ := (Nat → Int32) × (Nat → Int32)) (fun j i s => wX_run_16 post cu 0 (nI e) 0 0 (-1) 0 j (nI i) a1 a2 a3 a4 a5 a6 a7 a8 a9 a10 a11 a12 a13 a14 a15 a16 a17 s.1 s.2 a20 a21' a22 a23 a24 a25 a26 a27') (fun i s => ∀ d, d < i → s.1 d = 0 ∧ s.2 d = nI (sv d)) 4 0 (a18, a19) (by omega) (fun d hd => absurd hd (by omega)) ?_ ?_
  · intro j s hs
    refine br_t (Int32.le_refl _) (Exists.intro (n + 1) ?_)
    refine qw_48 ok F rfl hs (fun ch pe td rt lk a7 a8 a9 a13 a14 a15 a16 a17 a18 a19 a20 a21 a22 a23 a24 a25 a26 a27 hF hR => H _ _ _ _ _ _ _ _ _ _ _ _ _ _ _ _ _ _ _ _ _ _ _ _ hF hR) n 0 0 (-1) a17 a20 a21' a22 a23 a24 a25 a27' (by omega) ?_ (fun c hc => absurd hc (by omega))
    have : (fun c => if c < 0 then 32 * ar c + 16 + c else 0) = (fun _ => 0) := by
      funext c
      rw [if_neg (by omega)]
    rw [this]
    exact qq_zero he h21 h27
  · intro j i s hi hs hw
    have hcl : (nI i).toNatClampNeg = i := qn_cl (by omega)
    have hsv := (ok.2.1 i hi).2.1
    refine br_f (nI_ge (b := 4) hi (by decide)) ⟨pk_in i 4 hi, nm_e ⟨pk_in i 4 hi, pk_in i 4 hi, nm_e (nm_r (nI_1 i) (hw (upd s.1 (nI i).toNatClampNeg 0, upd s.2 (nI i).toNatClampNeg (vp_nar .byte (a1 (nI i).toNatClampNeg))) (fun d hd => ?_)))⟩⟩
    rw [hcl, (F.2.1 i hi).1, qn_vb (by omega)]
    show upd s.1 i 0 d = 0 ∧ upd s.2 i (nI (sv i)) d = nI (sv d)
    by_cases e1 : d = i
    · rw [e1, pk_us, pk_us]; exact ⟨rfl, rfl⟩
    · rw [pk_un e1, pk_un e1]; exact hs d (by omega)
end
end
section
theorem qs_tail {f : Nat → Int} {a : Nat} : ∀ {b : Nat}, a ≤ b → (∀ i, a ≤ i → i < b → f i = 0) → qs_I f b = qs_I f a := by
  intro b
  induction b with
  | zero => intro h _; rw [show a = 0 by omega]
  | succ b ih =>
    intro h hz
    by_cases e : a = b + 1
    · rw [e]
    · show qs_I f b + f b = _
      rw [ih (by omega) (fun i h1 h2 => hz i h1 (by omega)), hz b (by omega) (by omega), Int.add_zero]
theorem qs_four {f : Nat → Int} (N : Nat) : qs_I f (4 * N) = qs_I (fun c => qs_I (fun j => f (4 * c + j)) 4) N := by
  induction N with
  | zero => rfl
  | succ N ih =>
    show qs_I f (4 * (N + 1)) = qs_I (fun c => qs_I (fun j => f (4 * c + j)) 4) N + qs_I (fun j => f (4 * N + j)) 4
    rw [← ih]
    show qs_I f (4 * N) + f (4 * N + 0) + f (4 * N + 1) + f (4 * N + 2) + f (4 * N + 3) = qs_I f (4 * N) + (0 + f (4 * N + 0) + f (4 * N + 1) + f (4 * N + 2) + f (4 * N + 3))
    omega
theorem qs_neg {f : Nat → Int} (k : Nat) : qs_I (fun i => - f i) k = - qs_I f k := by
  induction k with
  | zero => rfl
  | succ k ih =>
    show qs_I (fun i => - f i) k + - f k = -(qs_I f k + f k)
    rw [ih]; omega
/-- the sum of stays at a station -/
def qo_S (n : Nat) (vc vs vn jn bg : Nat → Nat) (s : Nat) : Int := qs_I (fun c => qs_I (fun j => if vs (4 * c + j) = s then (bg (4 * c + j) : Int) + (vn (4 * c + j) : Int) - (jn (4 * c + j) : Int) else 0) (vc c)) n
def qo_P (n : Nat) (sv ar vc vs vn : Nat → Nat) (m : qm_M) : Prop := match m with
  | (vo, st, jn, bg, lv, k, lt, ls, la, lw) =>
    k ≤ 144 ∧ (∀ c, c < n → st c = 3 ∧ vo c = vc c ∧ lv c = qi_x ar vn bg c (vc c) ∧ lv c ≤ 4420) ∧ (∀ c j, c < n → j < vc c → jn (4 * c + j) = qi_x ar vn bg c j ∧ jn (4 * c + j) ≤ bg (4 * c + j) ∧ bg (4 * c + j) ≤ 4420) ∧
    (∀ i, i < k → ls i < 4 ∧ lt i ≤ 4420 ∧ ((la i = 1 ∧ lw i = 1) ∨ (la i = 0 ∧ lw i = -1) ∨ (la i = -1 ∧ lw i = 0)) ∧ ∃ c, c < n ∧ lt i ≤ lv c) ∧ (∀ i j, i ≤ j → j < k → lt i ≤ lt j) ∧
    (∀ s, s < 4 → qs_I (qi_e ls la s) k = 0 ∧ qs_I (qi_e ls lw s) k = 0) ∧ (∀ s p, s < 4 → p ≤ k → 0 ≤ qs_I (qi_e ls lw s) p ∧ qs_I (qi_e ls lw s) p ≤ qs_I (qi_e ls la s) p) ∧ (∀ s t, s < 4 → qi_G sv s t k lt ls la lw) ∧ (∀ s, s < 4 → qi_D s k lt ls la = - qo_S n vc vs vn jn bg s)
theorem qo_fin {n : Nat} {sv ru ar vc vs vn : Nat → Nat} {m : qm_M} (ok : qf_ok n sv ru ar vc vs vn) (hF : qm_F n sv ar vc vs vn m) : qo_P n sv ar vc vs vn m := by
  obtain ⟨T, I, K, Z⟩ := hF
  obtain ⟨vo, st, jn, bg, lv, k, lt, ls, la, lw⟩ := m
  have I' : qi_I n sv ar vc vs vn T 99 vo st jn bg lv k lt ls la lw := I
  have hk := qi_ch ok I'
  have hT := qi_T ok I'
  have n4 := qi_n4 ok I'
  have hn := ok.1
  obtain ⟨i1, i2, i3, i4, i5, i6, i7, i8, i9, i10⟩ := I'
  have h0 : ∀ c, st c ≠ 0 := by
    intro c e
    have := Z c
    have z : qi_ev ar vn vo st bg c = 0 := this
    unfold qi_ev at z
    rw [if_pos e] at z
    omega
  have h2 : ∀ c, st c ≠ 2 := by
    intro c e
    have z : qi_ev ar vn vo st bg c = 0 := Z c
    unfold qi_ev at z
    rw [if_neg (h0 c), if_pos e] at z
    rcases Nat.lt_or_ge c n with w | w
    · have hv := ((i2 c w).2.2.2.2.1 e).1
      have := (ok.2.2.2 c (vo c) w hv).2.1
      omega
    · have := (i1 c w).1
      omega
  have hb : ∀ s, qs_I (qi_b vs vo st s) 12 = 0 := by
    intro s
    refine qs_0 (fun c _ => ?_)
    unfold qi_b
    rw [if_neg (fun w => h2 c w.1)]
  have hw : ∀ s, s < 4 → qs_I (qi_w vs vo st s) 12 = 0 := by
    intro s hs
    rcases K s hs with w | w
    · have w' : qs_I (qi_b vs vo st s) 12 = (sv s : Int) := w
      have := (ok.2.1 s hs).1
      rw [hb s] at w'
      omega
    · exact w
  have h1 : ∀ c, c < n → st c ≠ 1 := by
    intro c hc e
    have hv := ((i2 c hc).2.2.2.1 e).1
    have hs := (ok.2.2.2 c (vo c) hc hv).1
    have := qs_ge (f := qi_w vs vo st (vs (4 * c + vo c))) (c := c) (k := 12) (by omega) (fun i _ => qi_wn _ _ _ _ _)
    rw [hw _ hs] at this
    unfold qi_w at this
    rw [if_pos ⟨e, rfl⟩] at this
    omega
  have h3 : ∀ c, c < n → st c = 3 := by
    intro c hc
    rcases (i2 c hc).1 with w | w | w | w | w
    · exact absurd w (h0 c)
    · exact absurd w (h1 c hc)
    · exact absurd w (h2 c)
    · exact w
    · exact absurd w.1 (n4 c)
  have hv3 : ∀ c, c < n → vo c = vc c ∧ lv c = qi_x ar vn bg c (vc c) ∧ lv c ≤ T := fun c hc => (i2 c hc).2.2.2.2.2.1 (h3 c hc)
  refine ⟨hk, fun c hc => ⟨h3 c hc, (hv3 c hc).1, (hv3 c hc).2.1, ?_⟩, fun c j hc hj => ?_, fun i hi => ?_, i5, fun s hs => ?_, i8, fun s t hs => ?_, fun s hs => ?_⟩
  · have := (hv3 c hc).2.2
    omega
  · obtain ⟨w1, w2, w3⟩ := (i2 c hc).2.2.2.2.2.2.2 j (by rw [(hv3 c hc).1]; exact hj)
    exact ⟨w1, w2, by omega⟩
  · obtain ⟨w1, w2, w3, c, hc, w4⟩ := i4 i hi
    exact ⟨w1, by omega, w3, c, hc, w4 (h3 c hc)⟩
  · obtain ⟨w1, w2, w3⟩ := i7 s hs
    rw [hw s hs] at w1 w2
    rw [hb s] at w1
    exact ⟨w1, w2⟩
  · rcases Nat.lt_or_ge t T with w | w
    · exact i9 s t hs w
    · have e : ∀ f : Nat → Int, qs_I (qi_t lt ls f s t) k = qs_I (qi_e ls f s) k := by
        intro f
        refine qs_cg (fun i hi => ?_)
        unfold qi_t
        have := (i4 i hi).2.1
        rw [if_pos (by omega)]
      obtain ⟨x1, x2, x3⟩ := i7 s hs
      rw [hw s hs] at x1 x2
      rw [hb s] at x1
      unfold qi_G
      rw [e, e, x1, x2]
      exact ⟨by omega, Or.inr rfl⟩
  · rw [i10 s hs, show (48 : Nat) = 4 * 12 from rfl, qs_four]
    unfold qo_S
    rw [← qs_neg, qs_tail (a := n) (b := 12) hn (fun c h1' h2' => ?_)]
    · refine qs_cg (fun c hc => ?_)
      have hv4 := (ok.2.2.1 c hc).2
      rw [← qs_neg, qs_tail (a := vc c) (b := 4) hv4 (fun j h1' h2' => ?_)]
      · refine qs_cg (fun j hj => ?_)
        unfold qi_v
        rw [show (4 * c + j) % 4 = j by omega, show (4 * c + j) / 4 = c by omega, (hv3 c hc).1]
        by_cases e : vs (4 * c + j) = s
        · rw [if_pos e, if_pos e, if_pos hj]; omega
        · rw [if_neg e, if_neg e]; rfl
      · unfold qi_v
        rw [show (4 * c + j) % 4 = j by omega, show (4 * c + j) / 4 = c by omega, (hv3 c hc).1, h3 c hc]
        rw [if_neg (show ¬ j < vc c by omega), if_neg (show ¬ (j = vc c ∧ (3 = 1 ∨ 3 = 2)) by omega), ite_self]
    · refine qs_0 (fun j hj => ?_)
      unfold qi_v
      rw [show (4 * c + j) % 4 = j by omega, show (4 * c + j) / 4 = c by omega, (i1 c h1').1, (i1 c h1').2]
      rw [if_neg (show ¬ j < 0 by omega), if_neg (show ¬ (j = 0 ∧ (3 = 1 ∨ 3 = 2)) by omega), ite_self]
end
section
def qf_S (n : Nat) (sv ru ar vc vs vn : Nat → Nat) (u : St1) : Prop := match u with
  | (cu, ch, en, pe, td, rt, lk, a1, a2, a3, a4, a5, a6, a7, a8, a9, a10, a11, a12, a13, a14, a15, a16, a17, a18, a19, a20, a21, a22, a23, a24, a25, a26, a27) => qf_R n sv ru ar vc vs vn cu a1 a2 a3 a4 a5 a6
theorem qx_en {post : Int32 → Prop} {e : Nat} (he : e < 4) (H : post 1) : wpX_isEngine post () (nI e) := br_f (nI_pos (by omega)) (br_f (nI_ge (b := 4) he (by decide)) H)
theorem qx_st {post : Int32 → Prop} {e : Nat} (he : e < 4) (H : post 1) : wpX_isStation post () (nI e) := br_f (nI_pos (by omega)) (br_f (nI_ge (b := 4) he (by decide)) H)
theorem qx_ti {post : Int32 → Prop} {t : Nat} (ht : t ≤ 10000) (H : post 1) : wpX_isTime post () (nI t) := br_f (nI_pos (by omega)) (br_f (nI_nlt (a := 10000) ht (by decide)) H)
theorem qx_cu {post : Int32 → Prop} {cu ch en pe td rt lk : Int32} {a1 a2 a3 a4 a5 a6 a7 a8 a9 a10 a11 a12 a13 a14 a15 a16 a17 a18 a19 a20 a21 a22 a23 a24 a25 a26 a27 : Nat → Int32} {n c : Nat} (hcu : cu = nI n) (hn : n ≤ 12) (hc : c < 1048576) (H1 : c < n → post 1) (H0 : ¬ c < n → post 0) : wpX_isCustomer post (cu, ch, en, pe, td, rt, lk, a1, a2, a3, a4, a5, a6, a7, a8, a9, a10, a11, a12, a13, a14, a15, a16, a17, a18, a19, a20, a21, a22, a23, a24, a25, a26, a27) (nI c) := by
  subst hcu
  exact br_f (nI_pos (by omega)) (pk_le n c (fun z => H0 (by omega)) (fun z => H1 z))
theorem qx_vi {post : Int32 → Prop} {cu ch en pe td rt lk : Int32} {a1 a2 a3 a4 a5 a6 a7 a8 a9 a10 a11 a12 a13 a14 a15 a16 a17 a18 a19 a20 a21 a22 a23 a24 a25 a26 a27 : Nat → Int32} {n c j : Nat} {sv ru ar vc vs vn : Nat → Nat} (ok : qf_ok n sv ru ar vc vs vn) (F : qf_R n sv ru ar vc vs vn cu a1 a2 a3 a4 a5 a6) (hc : c < 1048576) (hj : j < 1048576) (H1 : c < n → j < vc c → post 1) (H0 : ¬ (c < n ∧ j < vc c) → post 0) : wpX_isVisit post (cu, ch, en, pe, td, rt, lk, a1, a2, a3, a4, a5, a6, a7, a8, a9, a10, a11, a12, a13, a14, a15, a16, a17, a18, a19, a20, a21, a22, a23, a24, a25, a26, a27) (nI c) (nI j) := by
  unfold wpX_isVisit
  refine qx_cu F.1 ok.1 hc (fun z => ?_) (fun z => ?_)
  · have hn := ok.1
    have hv := (ok.2.2.1 c z).2
    refine br_f (by decide) (br_f (nI_pos (by omega)) ⟨pk_in c 12 (by omega), ?_⟩)
    refine pk_le (vc c) j (fun y => H0 (fun w => by omega)) (fun y => H1 z y) ?_
    rw [qn_cl hc]; exact (F.2.2.1 c z).2
  · exact br_t rfl (H0 (fun w => z w.1))
def qa_lv (n : Nat) : qm_M → Nat → Int32
  | (_, _, _, _, lv, _, _, _, _, _), c => if c < n then nI (lv c) else -1
def qa_jn (n : Nat) (vc : Nat → Nat) : qm_M → Nat → Nat → Int32
  | (_, _, jn, _, _, _, _, _, _, _), c, j => if c < n ∧ j < vc c then nI (jn (4 * c + j)) else -1
def qa_bg (n : Nat) (vc : Nat → Nat) : qm_M → Nat → Nat → Int32
  | (_, _, _, bg, _, _, _, _, _, _), c, j => if c < n ∧ j < vc c then nI (bg (4 * c + j)) else -1
def qa_at : qm_M → Nat → Nat → Int
  | (_, _, _, _, _, k, lt, ls, la, _), s, t => qs_I (qi_t lt ls la s t) k
def qa_wt : qm_M → Nat → Nat → Int
  | (_, _, _, _, _, k, lt, ls, _, lw), s, t => qs_I (qi_t lt ls lw s t) k
def qo_l (lv : Nat → Nat) : Nat → Nat
  | 0 => 0
  | c + 1 => max (qo_l lv c) (lv c)
def qa_la (n : Nat) : qm_M → Nat
  | (_, _, _, _, lv, _, _, _, _, _) => qo_l lv n
def qo_b (k : Nat) (lt ls : Nat → Nat) (lw : Nat → Int) (s : Nat) : Nat → Int
  | 0 => 0
  | i + 1 => if (i + 1 = k ∨ lt i < lt (i + 1)) ∧ qo_b k lt ls lw s i < qs_I (qi_e ls lw s) (i + 1) then qs_I (qi_e ls lw s) (i + 1) else qo_b k lt ls lw s i
def qa_lo : qm_M → Nat → Int
  | (_, _, _, _, _, k, lt, ls, _, lw), s => qo_b k lt ls lw s k
def qo_a (lt ls : Nat → Nat) (la : Nat → Int) (s e : Nat) : Nat → Int × Int
  | 0 => (0, 0)
  | i + 1 => if ls i = s then ((qo_a lt ls la s e i).1 + qs_I (qi_e ls la s) i * (((min (lt i) e : Nat) : Int) - (qo_a lt ls la s e i).2), ((min (lt i) e : Nat) : Int)) else qo_a lt ls la s e i
def qa_ar : qm_M → Nat → Nat → Int
  | (_, _, _, _, _, k, lt, ls, la, _), s, e => (qo_a lt ls la s e k).1 + qs_I (qi_e ls la s) k * ((e : Int) - (qo_a lt ls la s e k).2)
def qa_sy (n : Nat) (vc vs vn : Nat → Nat) : qm_M → Nat → Int
  | (_, _, jn, bg, _, _, _, _, _, _), s => qo_S n vc vs vn jn bg s
def qo_y (lt ls : Nat → Nat) (la lw : Nat → Int) (s : Nat) : Nat → Int × Int
  | 0 => (0, 0)
  | i + 1 => if ls i = s then ((qo_y lt ls la lw s i).1 + (if qs_I (qi_e ls la s) i - qs_I (qi_e ls lw s) i ≤ 0 then 0 else (lt i : Int) - (qo_y lt ls la lw s i).2), (lt i : Int)) else qo_y lt ls la lw s i
def qa_by : qm_M → Nat → Int
  | (_, _, _, _, _, k, lt, ls, la, lw), s => (qo_y lt ls la lw s k).1
def qo_e (lv : Nat → Nat) (c : Nat) : Nat → Nat
  | 0 => 0
  | d + 1 => qo_e lv c d + (if lv d < lv c ∨ (lv d = lv c ∧ d < c) then 1 else 0)
section
variable {n : Nat} {sv ru ar vc vs vn : Nat → Nat}
theorem qx_leaves {post : Int32 → St1 → Prop} {u : St1} {e c : Nat} (ok : qf_ok n sv ru ar vc vs vn) (S : qf_S n sv ru ar vc vs vn u) (he : e < 4) (hc : c < 1048576) (H : ∀ u', qf_S n sv ru ar vc vs vn u' → (c < n → qo_P n sv ar vc vs vn (qm_sim n sv ru ar vc vs vn)) → post (qa_lv n (qm_sim n sv ru ar vc vs vn) c) u') : wpX_leaves post u (nI e) (nI c) := by
  obtain ⟨cu, ch, en, pe, td, rt, lk, a1, a2, a3, a4, a5, a6, a7, a8, a9, a10, a11, a12, a13, a14, a15, a16, a17, a18, a19, a20, a21, a22, a23, a24, a25, a26, a27⟩ := u
  have F : qf_R n sv ru ar vc vs vn cu a1 a2 a3 a4 a5 a6 := S
  have hn := ok.1
  unfold wpX_leaves
  refine qx_en he (br_f (by decide) ?_)
  refine qx_cu F.1 hn hc (fun z => ?_) (fun z => ?_)
  · refine br_f (by decide) (qw_run ok F he (fun ch' en' pe' td' rt' lk' a7' a8' a9' a13' a14' a15' a16' a17' a18' a19' a20' a21' a22' a23' a24' a25' a26' a27' hF hR => ⟨pk_in c 12 (by omega), ?_⟩))
    have hP := qo_fin ok hF
    revert hP hR H
    generalize qm_sim n sv ru ar vc vs vn = m
    obtain ⟨vo, st, jn, bg, lv, k, lt, ls, la, lw⟩ := m
    intro H hR hP
    have R : qr_R n sv vs vo st jn bg lv k lt ls la lw ch' a7' a8' a9' a13' a14' a15' a16' a17' a18' a19' := hR
    have e1 : a9' (nI c).toNatClampNeg = qa_lv n (vo, st, jn, bg, lv, k, lt, ls, la, lw) c := by
      rw [qn_cl hc, R.2.2.2.2.2.2.1 c z (hP.2.1 c z).1]
      show _ = if c < n then nI (lv c) else -1
      rw [if_pos z]
    rw [e1]
    exact H _ F (fun _ => hP)
  · refine br_t rfl ?_
    have e1 : qa_lv n (qm_sim n sv ru ar vc vs vn) c = -1 := by
      generalize qm_sim n sv ru ar vc vs vn = m
      obtain ⟨vo, st, jn, bg, lv, k, lt, ls, la, lw⟩ := m
      exact if_neg z
    rw [← e1]
    exact H _ F (fun w => absurd w z)
theorem qx_joins {post : Int32 → St1 → Prop} {u : St1} {c j : Nat} (ok : qf_ok n sv ru ar vc vs vn) (S : qf_S n sv ru ar vc vs vn u) (hc : c < 1048576) (hj : j < 1048576) (H : ∀ u', qf_S n sv ru ar vc vs vn u' → (c < n → j < vc c → qo_P n sv ar vc vs vn (qm_sim n sv ru ar vc vs vn)) → post (qa_jn n vc (qm_sim n sv ru ar vc vs vn) c j) u') : wpX_joins post u (nI c) (nI j) := by
  obtain ⟨cu, ch, en, pe, td, rt, lk, a1, a2, a3, a4, a5, a6, a7, a8, a9, a10, a11, a12, a13, a14, a15, a16, a17, a18, a19, a20, a21, a22, a23, a24, a25, a26, a27⟩ := u
  have F : qf_R n sv ru ar vc vs vn cu a1 a2 a3 a4 a5 a6 := S
  have hn := ok.1
  unfold wpX_joins
  refine qx_vi ok F hc hj (fun z y => ?_) (fun z => ?_)
  · have hv := (ok.2.2.1 c z).2
    refine br_f (by decide) (qw_run (e := 1) ok F (by omega) (fun ch' en' pe' td' rt' lk' a7' a8' a9' a13' a14' a15' a16' a17' a18' a19' a20' a21' a22' a23' a24' a25' a26' a27' hF hR => ⟨pk_in (4 * c + j) 48 (by omega) qn_t4, ?_⟩))
    have hP := qo_fin ok hF
    revert hP hR H
    generalize qm_sim n sv ru ar vc vs vn = m
    obtain ⟨vo, st, jn, bg, lv, k, lt, ls, la, lw⟩ := m
    intro H hR hP
    have R : qr_R n sv vs vo st jn bg lv k lt ls la lw ch' a7' a8' a9' a13' a14' a15' a16' a17' a18' a19' := hR
    have e1 : a7' (nI c * 4 + nI j).toNatClampNeg = qa_jn n vc (vo, st, jn, bg, lv, k, lt, ls, la, lw) c j := by
      rw [qn_t4, qn_cl (by omega), R.2.2.2.2.1 c j z (Or.inl (by rw [(hP.2.1 c z).2.1]; exact y))]
      show _ = if c < n ∧ j < vc c then nI (jn (4 * c + j)) else -1
      rw [if_pos ⟨z, y⟩]
    rw [e1]
    exact H _ F (fun _ _ => hP)
  · refine br_t rfl ?_
    have e1 : qa_jn n vc (qm_sim n sv ru ar vc vs vn) c j = -1 := by
      generalize qm_sim n sv ru ar vc vs vn = m
      obtain ⟨vo, st, jn, bg, lv, k, lt, ls, la, lw⟩ := m
      exact if_neg z
    rw [← e1]
    exact H _ F (fun w1 w2 => absurd ⟨w1, w2⟩ z)
theorem qx_begins {post : Int32 → St1 → Prop} {u : St1} {c j : Nat} (ok : qf_ok n sv ru ar vc vs vn) (S : qf_S n sv ru ar vc vs vn u) (hc : c < 1048576) (hj : j < 1048576) (H : ∀ u', qf_S n sv ru ar vc vs vn u' → (c < n → j < vc c → qo_P n sv ar vc vs vn (qm_sim n sv ru ar vc vs vn)) → post (qa_bg n vc (qm_sim n sv ru ar vc vs vn) c j) u') : wpX_begins post u (nI c) (nI j) := by
  obtain ⟨cu, ch, en, pe, td, rt, lk, a1, a2, a3, a4, a5, a6, a7, a8, a9, a10, a11, a12, a13, a14, a15, a16, a17, a18, a19, a20, a21, a22, a23, a24, a25, a26, a27⟩ := u
  have F : qf_R n sv ru ar vc vs vn cu a1 a2 a3 a4 a5 a6 := S
  have hn := ok.1
  unfold wpX_begins
  refine qx_vi ok F hc hj (fun z y => ?_) (fun z => ?_)
  · have hv := (ok.2.2.1 c z).2
    refine br_f (by decide) (qw_run (e := 3) ok F (by omega) (fun ch' en' pe' td' rt' lk' a7' a8' a9' a13' a14' a15' a16' a17' a18' a19' a20' a21' a22' a23' a24' a25' a26' a27' hF hR => ⟨pk_in (4 * c + j) 48 (by omega) qn_t4, ?_⟩))
    have hP := qo_fin ok hF
    revert hP hR H
    generalize qm_sim n sv ru ar vc vs vn = m
    obtain ⟨vo, st, jn, bg, lv, k, lt, ls, la, lw⟩ := m
    intro H hR hP
    have R : qr_R n sv vs vo st jn bg lv k lt ls la lw ch' a7' a8' a9' a13' a14' a15' a16' a17' a18' a19' := hR
    have e1 : a8' (nI c * 4 + nI j).toNatClampNeg = qa_bg n vc (vo, st, jn, bg, lv, k, lt, ls, la, lw) c j := by
      rw [qn_t4, qn_cl (by omega), R.2.2.2.2.2.1 c j z (Or.inl (by rw [(hP.2.1 c z).2.1]; exact y))]
      show _ = if c < n ∧ j < vc c then nI (bg (4 * c + j)) else -1
      rw [if_pos ⟨z, y⟩]
    rw [e1]
    exact H _ F (fun _ _ => hP)
  · refine br_t rfl ?_
    have e1 : qa_bg n vc (qm_sim n sv ru ar vc vs vn) c j = -1 := by
      generalize qm_sim n sv ru ar vc vs vn = m
      obtain ⟨vo, st, jn, bg, lv, k, lt, ls, la, lw⟩ := m
      exact if_neg z
    rw [← e1]
    exact H _ F (fun w1 w2 => absurd ⟨w1, w2⟩ z)
end
/-- sums up to a time -/
theorem qx_sum {post : Int32 → Prop} {cu ch en pe td rt lk : Int32} {a1 a2 a3 a4 a5 a6 a7 a8 a9 a10 a11 a12 a13 a14 a15 a16 a17 a18 a19 a20 a21 a22 a23 a24 a25 a26 a27 : Nat → Int32} {s t k : Nat} {x3 : Int32} {lt ls : Nat → Nat} {g : Nat → Int} (hk : k ≤ 144) (hch : ch = nI k) (hs : s < 4) (ht : t ≤ 10000) (h13 : ∀ i, i < k → a13 i = nI (lt i) ∧ a14 i = nI (ls i) ∧ lt i ≤ 4420 ∧ ls i < 4) (hg : ∀ i, i < k → (x3 = 0 ∧ a15 i = qn_I (g i)) ∨ (x3 = 1 ∧ a16 i = qn_I (g i))) (hsort : ∀ i j, i ≤ j → j < k → lt i ≤ lt j)
    (H : post (qn_I (qs_I (qi_t lt ls g s t) k))) : wpX_sumUpTo post (cu, ch, en, pe, td, rt, lk, a1, a2, a3, a4, a5, a6, a7, a8, a9, a10, a11, a12, a13, a14, a15, a16, a17, a18, a19, a20, a21, a22, a23, a24, a25, a26, a27) (nI s) (nI t) x3 := by
  subst hch
  have main : ∀ (f i : Nat), i + f = k → wX_sumUpTo_6 post (nI s) (nI t) x3 cu (nI k) en pe td rt lk a1 a2 a3 a4 a5 a6 a7 a8 a9 a10 a11 a12 a13 a14 a15 a16 a17 a18 a19 a20 a21 a22 a23 a24 a25 a26 a27 (f + 1) (qn_I (qs_I (qi_t lt ls g s t) i)) (nI i) := by
    intro f
    induction f with
    | zero =>
      intro i hi
      have hik : i = k := by omega
      rw [hik]
      exact br_t (Int32.le_refl _) H
    | succ f ih =>
      intro i hi
      obtain ⟨v13, v14, b13, b14⟩ := h13 i (by omega)
      have hcl : (nI i).toNatClampNeg = i := qn_cl (by omega)
      refine br_f (nI_ge (by omega) (by omega)) ⟨pk_in i 160 (by omega), ?_⟩
      rw [hcl]
      refine pk_lt t (lt i) (fun z => ?_) (fun z => ?_) rfl v13
      · rw [← qs_tail (f := qi_t lt ls g s t) (a := i) (b := k) (by omega) (fun j h1 h2 => ?_)]
        · exact H
        · have := hsort i j h1 h2
          unfold qi_t
          rw [if_neg (by omega)]
      · have step : ∀ z0, z0 = qn_I (g i) → wX_sumUpTo_47 post (wX_sumUpTo_6 post (nI s) (nI t) x3 cu (nI k) en pe td rt lk a1 a2 a3 a4 a5 a6 a7 a8 a9 a10 a11 a12 a13 a14 a15 a16 a17 a18 a19 a20 a21 a22 a23 a24 a25 a26 a27 (f + 1)) (nI s) (nI t) x3 (qn_I (qs_I (qi_t lt ls g s t) i)) (nI i) z0 cu (nI k) en pe td rt lk a1 a2 a3 a4 a5 a6 a7 a8 a9 a10 a11 a12 a13 a14 a15 a16 a17 a18 a19 a20 a21 a22 a23 a24 a25 a26 a27 := by
          intro z0 hz0
          refine And.intro (pk_in i 160 (by omega)) ?_
          rw [hcl]
          refine pk_eq (ls i) s (fun y => ?_) (fun y => ?_) v14
          · refine nm_r (e' := qn_I (qs_I (qi_t lt ls g s t) (i + 1))) ?_ (nm_r (nI_1 i) (ih (i + 1) (by omega)))
            rw [hz0, qn_Ia]
            show _ = qn_I (qs_I (qi_t lt ls g s t) i + qi_t lt ls g s t i)
            unfold qi_t qi_e
            rw [if_pos (by omega), if_pos y]
          · refine nm_r (e' := qn_I (qs_I (qi_t lt ls g s t) (i + 1))) ?_ (nm_r (nI_1 i) (ih (i + 1) (by omega)))
            rw [show (0 : Int32) = qn_I 0 from rfl, qn_Ia]
            show _ = qn_I (qs_I (qi_t lt ls g s t) i + qi_t lt ls g s t i)
            unfold qi_t qi_e
            rw [if_pos (by omega), if_neg y]
        rcases hg i (by omega) with ⟨y1, y2⟩ | ⟨y1, y2⟩
        · exact br_t y1 ⟨pk_in i 160 (by omega), step _ y2⟩
        · exact br_f (by rw [y1]; decide) ⟨pk_in i 160 (by omega), step _ y2⟩
  exact Exists.intro (k + 1) (main k 0 (by omega))
section
variable {n : Nat} {sv ru ar vc vs vn : Nat → Nat}
theorem qx_at {post : Int32 → St1 → Prop} {u : St1} {s t : Nat} (ok : qf_ok n sv ru ar vc vs vn) (S : qf_S n sv ru ar vc vs vn u) (hs : s < 4) (ht : t ≤ 10000) (H : ∀ u', qf_S n sv ru ar vc vs vn u' → qo_P n sv ar vc vs vn (qm_sim n sv ru ar vc vs vn) → post (qn_I (qa_at (qm_sim n sv ru ar vc vs vn) s t)) u') : wpX_at post u (nI s) (nI t) := by
  obtain ⟨cu, ch, en, pe, td, rt, lk, a1, a2, a3, a4, a5, a6, a7, a8, a9, a10, a11, a12, a13, a14, a15, a16, a17, a18, a19, a20, a21, a22, a23, a24, a25, a26, a27⟩ := u
  have F : qf_R n sv ru ar vc vs vn cu a1 a2 a3 a4 a5 a6 := S
  unfold wpX_at
  refine qx_st hs (br_f (by decide) (qx_ti ht (br_f (by decide) (qw_run (e := 2) ok F (by omega) (fun ch' en' pe' td' rt' lk' a7' a8' a9' a13' a14' a15' a16' a17' a18' a19' a20' a21' a22' a23' a24' a25' a26' a27' hF hR => ?_)))))
  have hP := qo_fin ok hF
  revert hP hR H
  generalize qm_sim n sv ru ar vc vs vn = m
  obtain ⟨vo, st, jn, bg, lv, k, lt, ls, la, lw⟩ := m
  intro H hR hP
  have R : qr_R n sv vs vo st jn bg lv k lt ls la lw ch' a7' a8' a9' a13' a14' a15' a16' a17' a18' a19' := hR
  have R8 := R.2.2.2.2.2.2.2
  refine qx_sum (g := la) hP.1 R.1 hs ht (fun i hi => ⟨(R8 i hi).1, (R8 i hi).2.1, (hP.2.2.2.1 i hi).2.1, (hP.2.2.2.1 i hi).1⟩) (fun i hi => Or.inl ⟨rfl, (R8 i hi).2.2.1⟩) hP.2.2.2.2.1 ?_
  exact H _ F hP
theorem qx_waits {post : Int32 → St1 → Prop} {u : St1} {s t : Nat} (ok : qf_ok n sv ru ar vc vs vn) (S : qf_S n sv ru ar vc vs vn u) (hs : s < 4) (ht : t ≤ 10000) (H : ∀ u', qf_S n sv ru ar vc vs vn u' → qo_P n sv ar vc vs vn (qm_sim n sv ru ar vc vs vn) → post (qn_I (qa_wt (qm_sim n sv ru ar vc vs vn) s t)) u') : wpX_waits post u (nI s) (nI t) := by
  obtain ⟨cu, ch, en, pe, td, rt, lk, a1, a2, a3, a4, a5, a6, a7, a8, a9, a10, a11, a12, a13, a14, a15, a16, a17, a18, a19, a20, a21, a22, a23, a24, a25, a26, a27⟩ := u
  have F : qf_R n sv ru ar vc vs vn cu a1 a2 a3 a4 a5 a6 := S
  unfold wpX_waits
  refine qx_st hs (br_f (by decide) (qx_ti ht (br_f (by decide) (qw_run (e := 0) ok F (by omega) (fun ch' en' pe' td' rt' lk' a7' a8' a9' a13' a14' a15' a16' a17' a18' a19' a20' a21' a22' a23' a24' a25' a26' a27' hF hR => ?_)))))
  have hP := qo_fin ok hF
  revert hP hR H
  generalize qm_sim n sv ru ar vc vs vn = m
  obtain ⟨vo, st, jn, bg, lv, k, lt, ls, la, lw⟩ := m
  intro H hR hP
  have R : qr_R n sv vs vo st jn bg lv k lt ls la lw ch' a7' a8' a9' a13' a14' a15' a16' a17' a18' a19' := hR
  have R8 := R.2.2.2.2.2.2.2
  refine qx_sum (g := lw) hP.1 R.1 hs ht (fun i hi => ⟨(R8 i hi).1, (R8 i hi).2.1, (hP.2.2.2.1 i hi).2.1, (hP.2.2.2.1 i hi).1⟩) (fun i hi => Or.inr ⟨rfl, (R8 i hi).2.2.2⟩) hP.2.2.2.2.1 ?_
  exact H _ F hP
theorem qx_last {post : Int32 → St1 → Prop} {u : St1} (ok : qf_ok n sv ru ar vc vs vn) (S : qf_S n sv ru ar vc vs vn u) (H : ∀ u', qf_S n sv ru ar vc vs vn u' → qo_P n sv ar vc vs vn (qm_sim n sv ru ar vc vs vn) → post (nI (qa_la n (qm_sim n sv ru ar vc vs vn))) u') : wpX_last post u := by
  obtain ⟨cu, ch, en, pe, td, rt, lk, a1, a2, a3, a4, a5, a6, a7, a8, a9, a10, a11, a12, a13, a14, a15, a16, a17, a18, a19, a20, a21, a22, a23, a24, a25, a26, a27⟩ := u
  have F : qf_R n sv ru ar vc vs vn cu a1 a2 a3 a4 a5 a6 := S
  have hn := ok.1
  unfold wpX_last
  refine qw_run (e := 1) ok F (by omega) (fun ch' en' pe' td' rt' lk' a7' a8' a9' a13' a14' a15' a16' a17' a18' a19' a20' a21' a22' a23' a24' a25' a26' a27' hF hR => ?_)
  have hP := qo_fin ok hF
  revert hP hR H
  generalize qm_sim n sv ru ar vc vs vn = m
  obtain ⟨vo, st, jn, bg, lv, k, lt, ls, la, lw⟩ := m
  intro H hR hP
  have R : qr_R n sv vs vo st jn bg lv k lt ls la lw ch' a7' a8' a9' a13' a14' a15' a16' a17' a18' a19' := hR
  have hcu := F.1
  have hb : ∀ i, i ≤ n → qo_l lv i ≤ 4420 := by
    intro i
    induction i with
    | zero => intro _; exact Nat.zero_le _
    | succ i ih =>
      intro hi
      have h1 := ih (by omega)
      have h2 := (hP.2.1 i (by omega)).2.2.2
      show max (qo_l lv i) (lv i) ≤ 4420
      omega
  refine pk_loop (σ := Unit) (fun j i _ => wX_last_9 post cu ch' en' pe' td' rt' lk' a1 a2 a3 a4 a5 a6 a7' a8' a9' a10 a11 a12 a13' a14' a15' a16' a17' a18' a19' a20' a21' a22' a23' a24' a25' a26' a27' j (nI (qo_l lv i)) (nI i)) (fun _ _ => True) n 0 () (by omega) trivial ?_ ?_
  · intro j _ _
    exact br_t (by rw [hcu]; exact Int32.le_refl _) (H _ F hP)
  · intro j i _ hi _ hw
    have v9 : a9' (nI i).toNatClampNeg = nI (lv i) := by
      rw [qn_cl (by omega)]; exact R.2.2.2.2.2.2.1 i hi (hP.2.1 i hi).1
    have b1 := hb i (by omega)
    have b2 := (hP.2.1 i hi).2.2.2
    refine br_f (by rw [hcu]; exact nI_ge hi (by omega)) ⟨pk_in i 12 (by omega), ?_⟩
    refine pk_le (lv i) (qo_l lv i) (fun z => nm_r (nI_1 i) ?_) (fun z => ⟨pk_in i 12 (by omega), nm_r v9 (nm_r (nI_1 i) ?_)⟩) v9
    · have e1 : qo_l lv (i + 1) = qo_l lv i := by show max (qo_l lv i) (lv i) = _; omega
      have := hw () trivial
      rw [e1] at this
      exact this
    · have e1 : qo_l lv (i + 1) = lv i := by show max (qo_l lv i) (lv i) = _; omega
      have := hw () trivial
      rw [e1] at this
      exact this
end
end
section
section
variable {n : Nat} {sv ru ar vc vs vn : Nat → Nat}
theorem qx_longest {post : Int32 → St1 → Prop} {u : St1} {s : Nat} (ok : qf_ok n sv ru ar vc vs vn) (S : qf_S n sv ru ar vc vs vn u) (hs : s < 4) (H : ∀ u', qf_S n sv ru ar vc vs vn u' → qo_P n sv ar vc vs vn (qm_sim n sv ru ar vc vs vn) → post (qn_I (qa_lo (qm_sim n sv ru ar vc vs vn) s)) u') : wpX_longest post u (nI s) := by
  obtain ⟨cu, ch, en, pe, td, rt, lk, a1, a2, a3, a4, a5, a6, a7, a8, a9, a10, a11, a12, a13, a14, a15, a16, a17, a18, a19, a20, a21, a22, a23, a24, a25, a26, a27⟩ := u
  have F : qf_R n sv ru ar vc vs vn cu a1 a2 a3 a4 a5 a6 := S
  unfold wpX_longest
  refine qx_st hs (br_f (by decide) (qw_run (e := 0) ok F (by omega) (fun ch' en' pe' td' rt' lk' a7' a8' a9' a13' a14' a15' a16' a17' a18' a19' a20' a21' a22' a23' a24' a25' a26' a27' hF hR => ?_)))
  have hP := qo_fin ok hF
  revert hP hR H
  generalize qm_sim n sv ru ar vc vs vn = m
  obtain ⟨vo, st, jn, bg, lv, k, lt, ls, la, lw⟩ := m
  intro H hR hP
  have R : qr_R n sv vs vo st jn bg lv k lt ls la lw ch' a7' a8' a9' a13' a14' a15' a16' a17' a18' a19' := hR
  have R8 := R.2.2.2.2.2.2.2
  have hk := hP.1
  have hch := R.1
  have hP4 := hP.2.2.2.1
  have hW : ∀ i, i ≤ k → 0 ≤ qs_I (qi_e ls lw s) i ∧ qs_I (qi_e ls lw s) i ≤ 144 := by
    intro i hi
    have h1 := (hP.2.2.2.2.2.2.1 s i hs hi).1
    have h2 := qs_cst (f := qi_e ls lw s) (b := 1) (k := i) (fun j hj => by
      unfold qi_e
      have := (hP4 j (by omega)).2.2.1
      split <;> omega)
    omega
  have hB : ∀ i, i ≤ k → 0 ≤ qo_b k lt ls lw s i ∧ qo_b k lt ls lw s i ≤ 144 := by
    intro i
    induction i with
    | zero => intro _; exact ⟨Int.le_refl _, show (0 : Int) ≤ 144 by decide⟩
    | succ i ih =>
      intro hi
      have h1 := ih (by omega)
      have h2 := hW (i + 1) hi
      unfold qo_b
      split <;> omega
  subst hch
  have main : ∀ (f i : Nat), i + f = k → wX_longest_21 post (nI s) cu (nI k) en' pe' td' rt' lk' a1 a2 a3 a4 a5 a6 a7' a8' a9' a10 a11 a12 a13' a14' a15' a16' a17' a18' a19' a20' a21' a22' a23' a24' a25' a26' a27' (f + 1) (qn_I (qo_b k lt ls lw s i)) (qn_I (qs_I (qi_e ls lw s) i)) (nI i) := by
    intro f
    induction f with
    | zero =>
      intro i hi
      have hik : i = k := by omega
      rw [hik]
      exact br_t (Int32.le_refl _) (H _ F hP)
    | succ f ih =>
      intro i hi
      obtain ⟨v13, v14, v15, v16⟩ := R8 i (by omega)
      obtain ⟨b14, b13, _⟩ := hP4 i (by omega)
      have hcl : (nI i).toNatClampNeg = i := qn_cl (by omega)
      have hB1 := hB i (by omega)
      have hW1 := hW (i + 1) (by omega)
      have nx := ih (i + 1) (by omega)
      have step : ∀ z0, z0 = qn_I (qi_e ls lw s i) → wX_longest_53 post (wX_longest_21 post (nI s) cu (nI k) en' pe' td' rt' lk' a1 a2 a3 a4 a5 a6 a7' a8' a9' a10 a11 a12 a13' a14' a15' a16' a17' a18' a19' a20' a21' a22' a23' a24' a25' a26' a27' (f + 1)) (nI s) (qn_I (qo_b k lt ls lw s i)) (nI i) z0 (qn_I (qs_I (qi_e ls lw s) i)) cu (nI k) en' pe' td' rt' lk' a1 a2 a3 a4 a5 a6 a7' a8' a9' a10 a11 a12 a13' a14' a15' a16' a17' a18' a19' a20' a21' a22' a23' a24' a25' a26' a27' := by
        intro z0 hz0
        have hsum : qn_I (qs_I (qi_e ls lw s) i) + z0 = qn_I (qs_I (qi_e ls lw s) (i + 1)) := by rw [hz0, qn_Ia]; rfl
        have over : (i + 1 = k ∨ lt i < lt (i + 1)) → wX_longest_85 post (wX_longest_21 post (nI s) cu (nI k) en' pe' td' rt' lk' a1 a2 a3 a4 a5 a6 a7' a8' a9' a10 a11 a12 a13' a14' a15' a16' a17' a18' a19' a20' a21' a22' a23' a24' a25' a26' a27' (f + 1)) (nI s) (qn_I (qo_b k lt ls lw s i)) (qn_I (qs_I (qi_e ls lw s) (i + 1))) (nI i) cu (nI k) en' pe' td' rt' lk' a1 a2 a3 a4 a5 a6 a7' a8' a9' a10 a11 a12 a13' a14' a15' a16' a17' a18' a19' a20' a21' a22' a23' a24' a25' a26' a27' := by
          intro ho
          refine br_f (c := (1 : Int32) = 0) (by decide) ?_
          by_cases y : qs_I (qi_e ls lw s) (i + 1) ≤ qo_b k lt ls lw s i
          · refine br_t ((qn_Ile (by omega) (by omega) (by omega) (by omega)).mpr y) (nm_r (nI_1 i) ?_)
            have e1 : qo_b k lt ls lw s (i + 1) = qo_b k lt ls lw s i := by
              unfold qo_b
              rw [if_neg (fun w => by omega)]
              cases i <;> rfl
            rw [e1] at nx
            exact nx
          · refine br_f (fun w => y ((qn_Ile (by omega) (by omega) (by omega) (by omega)).mp w)) (nm_r (nI_1 i) ?_)
            have e1 : qo_b k lt ls lw s (i + 1) = qs_I (qi_e ls lw s) (i + 1) := by
              unfold qo_b
              rw [if_pos ⟨ho, by omega⟩]
            rw [e1] at nx
            exact nx
        refine nm_r hsum ?_
        refine pk_eq (i + 1) k (fun y => over (Or.inl y)) (fun y => ⟨pk_in (i + 1) 160 (by omega) (nI_1 i), pk_in i 160 (by omega), ?_⟩) (nI_1 i)
        have w13 := (R8 (i + 1) (by omega)).1
        have c13 := (hP4 (i + 1) (by omega)).2.1
        refine pk_le (lt (i + 1)) (lt i) (fun x => ?_) (fun x => over (Or.inr x)) (by rw [nI_1, qn_cl (by omega)]; exact w13) (by rw [hcl]; exact v13)
        refine br_t (c := (0 : Int32) = 0) rfl (nm_r (nI_1 i) ?_)
        have e1 : qo_b k lt ls lw s (i + 1) = qo_b k lt ls lw s i := by
          have : ¬ ((i + 1 = k ∨ lt i < lt (i + 1)) ∧ qo_b k lt ls lw s i < qs_I (qi_e ls lw s) (i + 1)) := fun w => by
            rcases w.1 with v | v
            · exact y v
            · omega
          rw [qo_b, if_neg this]
        rw [e1] at nx
        exact nx
      refine br_f (nI_ge (by omega) (by omega)) ⟨pk_in i 160 (by omega), ?_⟩
      rw [hcl]
      refine pk_eq (ls i) s (fun y => ⟨pk_in i 160 (by omega), step _ ?_⟩) (fun y => step _ ?_) v14
      · rw [v16]; unfold qi_e; rw [if_pos y]
      · unfold qi_e; rw [if_neg y]; rfl
  exact Exists.intro (k + 1) (main k 0 (by omega))
theorem qx_area {post : Int32 → St1 → Prop} {u : St1} {s e : Nat} (ok : qf_ok n sv ru ar vc vs vn) (S : qf_S n sv ru ar vc vs vn u) (hs : s < 4) (he : e ≤ 10000) (H : ∀ u', qf_S n sv ru ar vc vs vn u' → qo_P n sv ar vc vs vn (qm_sim n sv ru ar vc vs vn) → post (qn_I (qa_ar (qm_sim n sv ru ar vc vs vn) s e)) u') : wpX_area post u (nI s) (nI e) := by
  obtain ⟨cu, ch, en, pe, td, rt, lk, a1, a2, a3, a4, a5, a6, a7, a8, a9, a10, a11, a12, a13, a14, a15, a16, a17, a18, a19, a20, a21, a22, a23, a24, a25, a26, a27⟩ := u
  have F : qf_R n sv ru ar vc vs vn cu a1 a2 a3 a4 a5 a6 := S
  unfold wpX_area
  refine qx_st hs (br_f (by decide) (qx_ti he (br_f (by decide) (qw_run (e := 1) ok F (by omega) (fun ch' en' pe' td' rt' lk' a7' a8' a9' a13' a14' a15' a16' a17' a18' a19' a20' a21' a22' a23' a24' a25' a26' a27' hF hR => ?_)))))
  have hP := qo_fin ok hF
  revert hP hR H
  generalize qm_sim n sv ru ar vc vs vn = m
  obtain ⟨vo, st, jn, bg, lv, k, lt, ls, la, lw⟩ := m
  intro H hR hP
  have R : qr_R n sv vs vo st jn bg lv k lt ls la lw ch' a7' a8' a9' a13' a14' a15' a16' a17' a18' a19' := hR
  have R8 := R.2.2.2.2.2.2.2
  have hk := hP.1
  have hch := R.1
  have hP4 := hP.2.2.2.1
  subst hch
  have main : ∀ (f i : Nat), i + f = k → wX_area_32 post (nI s) (nI e) cu (nI k) en' pe' td' rt' lk' a1 a2 a3 a4 a5 a6 a7' a8' a9' a10 a11 a12 a13' a14' a15' a16' a17' a18' a19' a20' a21' a22' a23' a24' a25' a26' a27' (f + 1) (qn_I (qo_a lt ls la s e i).1) (qn_I (qs_I (qi_e ls la s) i)) (qn_I (qo_a lt ls la s e i).2) (nI i) := by
    intro f
    induction f with
    | zero =>
      intro i hi
      have hik : i = k := by omega
      rw [hik]
      refine br_t (Int32.le_refl _) ?_
      have e1 : qn_I (qo_a lt ls la s e k).1 + qn_I (qs_I (qi_e ls la s) k) * (nI e - qn_I (qo_a lt ls la s e k).2) = qn_I (qa_ar (vo, st, jn, bg, lv, k, lt, ls, la, lw) s e) := by
        rw [← qn_In e, qn_Is, qn_Im, qn_Ia]
        rfl
      rw [e1]
      exact H _ F hP
    | succ f ih =>
      intro i hi
      obtain ⟨v13, v14, v15, v16⟩ := R8 i (by omega)
      obtain ⟨b14, b13, _⟩ := hP4 i (by omega)
      have hcl : (nI i).toNatClampNeg = i := qn_cl (by omega)
      have nx := ih (i + 1) (by omega)
      refine br_f (nI_ge (by omega) (by omega)) ⟨pk_in i 160 (by omega), ?_⟩
      rw [hcl]
      refine pk_eq (ls i) s (fun y => ⟨pk_in i 160 (by omega), ?_⟩) (fun y => nm_r (nI_1 i) ?_) v14
      · have step : ∀ z0, z0 = qn_I ((min (lt i) e : Nat) : Int) → wX_area_74 post (wX_area_32 post (nI s) (nI e) cu (nI k) en' pe' td' rt' lk' a1 a2 a3 a4 a5 a6 a7' a8' a9' a10 a11 a12 a13' a14' a15' a16' a17' a18' a19' a20' a21' a22' a23' a24' a25' a26' a27' (f + 1)) (nI s) (nI e) (qn_I (qo_a lt ls la s e i).1) (qn_I (qs_I (qi_e ls la s) i)) (qn_I (qo_a lt ls la s e i).2) (nI i) z0 cu (nI k) en' pe' td' rt' lk' a1 a2 a3 a4 a5 a6 a7' a8' a9' a10 a11 a12 a13' a14' a15' a16' a17' a18' a19' a20' a21' a22' a23' a24' a25' a26' a27' := by
          intro z0 hz0
          have e0 : qo_a lt ls la s e (i + 1) = ((qo_a lt ls la s e i).1 + qs_I (qi_e ls la s) i * (((min (lt i) e : Nat) : Int) - (qo_a lt ls la s e i).2), ((min (lt i) e : Nat) : Int)) := by
            rw [qo_a, if_pos y]
          have e1 : qn_I (qo_a lt ls la s e i).1 + qn_I (qs_I (qi_e ls la s) i) * (z0 - qn_I (qo_a lt ls la s e i).2) = qn_I (qo_a lt ls la s e (i + 1)).1 := by
            rw [hz0, qn_Is, qn_Im, qn_Ia, e0]
          have e2 : qn_I (qs_I (qi_e ls la s) i) + a15' (nI i).toNatClampNeg = qn_I (qs_I (qi_e ls la s) (i + 1)) := by
            rw [hcl, v15, qn_Ia]
            show _ = qn_I (qs_I (qi_e ls la s) i + qi_e ls la s i)
            unfold qi_e
            rw [if_pos y]
          have e3 : z0 = qn_I (qo_a lt ls la s e (i + 1)).2 := by rw [hz0, e0]
          refine nm_r e1 ⟨pk_in i 160 (by omega), nm_r e2 (nm_r (nI_1 i) ?_)⟩
          rw [e3]
          exact nx
        refine pk_le e (lt i) (fun x => step _ ?_) (fun x => ⟨pk_in i 160 (by omega), step _ ?_⟩) rfl v13
        · rw [qn_In]; congr 1; omega
        · rw [v13, qn_In]; congr 1; omega
      · have e1 : qo_a lt ls la s e (i + 1) = qo_a lt ls la s e i := by rw [qo_a, if_neg y]
        have e2 : qs_I (qi_e ls la s) (i + 1) = qs_I (qi_e ls la s) i := by
          show qs_I (qi_e ls la s) i + qi_e ls la s i = _
          have : qi_e ls la s i = 0 := if_neg y
          rw [this, Int.add_zero]
        rw [e1, e2] at nx
        exact nx
  exact Exists.intro (k + 1) (main k 0 (by omega))
theorem qx_busy {post : Int32 → St1 → Prop} {u : St1} {s : Nat} (ok : qf_ok n sv ru ar vc vs vn) (S : qf_S n sv ru ar vc vs vn u) (hs : s < 4) (H : ∀ u', qf_S n sv ru ar vc vs vn u' → qo_P n sv ar vc vs vn (qm_sim n sv ru ar vc vs vn) → post (qn_I (qa_by (qm_sim n sv ru ar vc vs vn) s)) u') : wpX_busy post u (nI s) := by
  obtain ⟨cu, ch, en, pe, td, rt, lk, a1, a2, a3, a4, a5, a6, a7, a8, a9, a10, a11, a12, a13, a14, a15, a16, a17, a18, a19, a20, a21, a22, a23, a24, a25, a26, a27⟩ := u
  have F : qf_R n sv ru ar vc vs vn cu a1 a2 a3 a4 a5 a6 := S
  unfold wpX_busy
  refine qx_st hs (br_f (by decide) (qw_run (e := 3) ok F (by omega) (fun ch' en' pe' td' rt' lk' a7' a8' a9' a13' a14' a15' a16' a17' a18' a19' a20' a21' a22' a23' a24' a25' a26' a27' hF hR => ?_)))
  have hP := qo_fin ok hF
  revert hP hR H
  generalize qm_sim n sv ru ar vc vs vn = m
  obtain ⟨vo, st, jn, bg, lv, k, lt, ls, la, lw⟩ := m
  intro H hR hP
  have R : qr_R n sv vs vo st jn bg lv k lt ls la lw ch' a7' a8' a9' a13' a14' a15' a16' a17' a18' a19' := hR
  have R8 := R.2.2.2.2.2.2.2
  have hk := hP.1
  have hch := R.1
  have hP4 := hP.2.2.2.1
  have hB : ∀ i, i ≤ k → 0 ≤ qs_I (qi_e ls la s) i - qs_I (qi_e ls lw s) i ∧ qs_I (qi_e ls la s) i - qs_I (qi_e ls lw s) i ≤ 144 := by
    intro i hi
    have h1 := hP.2.2.2.2.2.2.1 s i hs hi
    have h2 := qs_cst (f := qi_e ls la s) (b := 1) (k := i) (fun j hj => by
      unfold qi_e
      have := (hP4 j (by omega)).2.2.1
      split <;> omega)
    omega
  subst hch
  have main : ∀ (f i : Nat), i + f = k → wX_busy_24 post (nI s) cu (nI k) en' pe' td' rt' lk' a1 a2 a3 a4 a5 a6 a7' a8' a9' a10 a11 a12 a13' a14' a15' a16' a17' a18' a19' a20' a21' a22' a23' a24' a25' a26' a27' (f + 1) (qn_I (qo_y lt ls la lw s i).1) (qn_I (qs_I (qi_e ls la s) i - qs_I (qi_e ls lw s) i)) (qn_I (qo_y lt ls la lw s i).2) (nI i) := by
    intro f
    induction f with
    | zero =>
      intro i hi
      have hik : i = k := by omega
      rw [hik]
      exact br_t (Int32.le_refl _) (H _ F hP)
    | succ f ih =>
      intro i hi
      obtain ⟨v13, v14, v15, v16⟩ := R8 i (by omega)
      obtain ⟨b14, b13, _⟩ := hP4 i (by omega)
      have hcl : (nI i).toNatClampNeg = i := qn_cl (by omega)
      have nx := ih (i + 1) (by omega)
      have hBi := hB i (by omega)
      refine br_f (nI_ge (by omega) (by omega)) ⟨pk_in i 160 (by omega), ?_⟩
      rw [hcl]
      refine pk_eq (ls i) s (fun y => ?_) (fun y => nm_r (nI_1 i) ?_) v14
      · have step : ∀ z0, z0 = qn_I (if qs_I (qi_e ls la s) i - qs_I (qi_e ls lw s) i ≤ 0 then 0 else (lt i : Int) - (qo_y lt ls la lw s i).2) → wX_busy_63 post (wX_busy_24 post (nI s) cu (nI k) en' pe' td' rt' lk' a1 a2 a3 a4 a5 a6 a7' a8' a9' a10 a11 a12 a13' a14' a15' a16' a17' a18' a19' a20' a21' a22' a23' a24' a25' a26' a27' (f + 1)) (nI s) (qn_I (qs_I (qi_e ls la s) i - qs_I (qi_e ls lw s) i)) (nI i) z0 (qn_I (qo_y lt ls la lw s i).1) cu (nI k) en' pe' td' rt' lk' a1 a2 a3 a4 a5 a6 a7' a8' a9' a10 a11 a12 a13' a14' a15' a16' a17' a18' a19' a20' a21' a22' a23' a24' a25' a26' a27' := by
          intro z0 hz0
          have e0 : qo_y lt ls la lw s (i + 1) = ((qo_y lt ls la lw s i).1 + (if qs_I (qi_e ls la s) i - qs_I (qi_e ls lw s) i ≤ 0 then 0 else (lt i : Int) - (qo_y lt ls la lw s i).2), (lt i : Int)) := by
            rw [qo_y, if_pos y]
          have e1 : qn_I (qo_y lt ls la lw s i).1 + z0 = qn_I (qo_y lt ls la lw s (i + 1)).1 := by
            rw [hz0, qn_Ia, e0]
          have e2 : qn_I (qs_I (qi_e ls la s) i - qs_I (qi_e ls lw s) i) + (a15' (nI i).toNatClampNeg - a16' (nI i).toNatClampNeg) = qn_I (qs_I (qi_e ls la s) (i + 1) - qs_I (qi_e ls lw s) (i + 1)) := by
            rw [hcl, v15, v16, qn_Is, qn_Ia]
            show _ = qn_I ((qs_I (qi_e ls la s) i + qi_e ls la s i) - (qs_I (qi_e ls lw s) i + qi_e ls lw s i))
            have y1 : qi_e ls la s i = la i := if_pos y
            have y2 : qi_e ls lw s i = lw i := if_pos y
            rw [y1, y2]
            congr 1; omega
          have e3 : a13' (nI i).toNatClampNeg = qn_I (qo_y lt ls la lw s (i + 1)).2 := by rw [hcl, v13, e0, qn_In]
          exact nm_r e1 ⟨pk_in i 160 (by omega), nm_r e3 ⟨pk_in i 160 (by omega), pk_in i 160 (by omega), nm_r e2 (nm_r (nI_1 i) nx)⟩⟩
        by_cases x : qs_I (qi_e ls la s) i - qs_I (qi_e ls lw s) i ≤ 0
        · refine br_t ?_ (step _ ?_)
          · exact (qn_Ile (b := 0) (by omega) (by omega) (by omega) (by omega)).mpr x
          · rw [if_pos x]; rfl
        · refine br_f (fun w => x ?_) ⟨pk_in i 160 (by omega), step _ ?_⟩
          · exact (qn_Ile (b := 0) (by omega) (by omega) (by omega) (by omega)).mp w
          · rw [if_neg x, v13, ← qn_In, qn_Is]
      · have e1 : qo_y lt ls la lw s (i + 1) = qo_y lt ls la lw s i := by rw [qo_y, if_neg y]
        have e2 : ∀ g : Nat → Int, qs_I (qi_e ls g s) (i + 1) = qs_I (qi_e ls g s) i := by
          intro g
          show qs_I (qi_e ls g s) i + qi_e ls g s i = _
          have : qi_e ls g s i = 0 := if_neg y
          rw [this, Int.add_zero]
        rw [e1, e2, e2] at nx
        exact nx
  exact Exists.intro (k + 1) (main k 0 (by omega))
theorem qx_stays {post : Int32 → St1 → Prop} {u : St1} {s : Nat} (ok : qf_ok n sv ru ar vc vs vn) (S : qf_S n sv ru ar vc vs vn u) (hs : s < 4) (H : ∀ u', qf_S n sv ru ar vc vs vn u' → qo_P n sv ar vc vs vn (qm_sim n sv ru ar vc vs vn) → post (qn_I (qa_sy n vc vs vn (qm_sim n sv ru ar vc vs vn) s)) u') : wpX_stays post u (nI s) := by
  obtain ⟨cu, ch, en, pe, td, rt, lk, a1, a2, a3, a4, a5, a6, a7, a8, a9, a10, a11, a12, a13, a14, a15, a16, a17, a18, a19, a20, a21, a22, a23, a24, a25, a26, a27⟩ := u
  have F : qf_R n sv ru ar vc vs vn cu a1 a2 a3 a4 a5 a6 := S
  have hn := ok.1
  unfold wpX_stays
  refine qx_st hs (br_f (by decide) (qw_run (e := 2) ok F (by omega) (fun ch' en' pe' td' rt' lk' a7' a8' a9' a13' a14' a15' a16' a17' a18' a19' a20' a21' a22' a23' a24' a25' a26' a27' hF hR => ?_)))
  have hP := qo_fin ok hF
  revert hP hR H
  generalize qm_sim n sv ru ar vc vs vn = m
  obtain ⟨vo, st, jn, bg, lv, k, lt, ls, la, lw⟩ := m
  intro H hR hP
  have R : qr_R n sv vs vo st jn bg lv k lt ls la lw ch' a7' a8' a9' a13' a14' a15' a16' a17' a18' a19' := hR
  have hcu := F.1
  have outer : ∀ (f i : Nat), i + f = n → wX_stays_18 post (nI s) cu ch' en' pe' td' rt' lk' a1 a2 a3 a4 a5 a6 a7' a8' a9' a10 a11 a12 a13' a14' a15' a16' a17' a18' a19' a20' a21' a22' a23' a24' a25' a26' a27' (f + 1) (qn_I (qo_S i vc vs vn jn bg s)) (nI i) := by
    intro f
    induction f with
    | zero =>
      intro i hi
      have hik : i = n := by omega
      rw [hik]
      exact br_t (by rw [hcu]; exact Int32.le_refl _) (H _ F hP)
    | succ f ih =>
      intro i hi
      have hil : i < n := by omega
      have nx := ih (i + 1) (by omega)
      have hv4 := (ok.2.2.1 i hil).2
      have hcl : (nI i).toNatClampNeg = i := qn_cl (by omega)
      have v4 := (F.2.2.1 i hil).2
      refine br_f (by rw [hcu]; exact nI_ge hil (by omega)) ?_
      have inner : ∀ (h j : Nat), j + h = vc i → wX_stays_29 post (wX_stays_18 post (nI s) cu ch' en' pe' td' rt' lk' a1 a2 a3 a4 a5 a6 a7' a8' a9' a10 a11 a12 a13' a14' a15' a16' a17' a18' a19' a20' a21' a22' a23' a24' a25' a26' a27' (f + 1)) (nI s) (nI i) cu ch' en' pe' td' rt' lk' a1 a2 a3 a4 a5 a6 a7' a8' a9' a10 a11 a12 a13' a14' a15' a16' a17' a18' a19' a20' a21' a22' a23' a24' a25' a26' a27' (h + 1) (qn_I (qo_S i vc vs vn jn bg s + qs_I (fun j => if vs (4 * i + j) = s then (bg (4 * i + j) : Int) + (vn (4 * i + j) : Int) - (jn (4 * i + j) : Int) else 0) j)) (nI j) := by
        intro h
        induction h with
        | zero =>
          intro j hj
          have hjv : j = vc i := by omega
          refine And.intro (pk_in i 12 (by omega)) ?_
          rw [hcl, v4, hjv]
          exact br_t (Int32.le_refl _) (nm_r (nI_1 i) nx)
        | succ h ih2 =>
          intro j hj
          have hjl : j < vc i := by omega
          have nx2 := ih2 (j + 1) (by omega)
          obtain ⟨v5, v6⟩ := F.2.2.2 i j hil hjl
          have v7 := R.2.2.2.2.1 i j hil (Or.inl (by rw [(hP.2.1 i hil).2.1]; exact hjl))
          have v8 := R.2.2.2.2.2.1 i j hil (Or.inl (by rw [(hP.2.1 i hil).2.1]; exact hjl))
          have hvl : (nI (4 * i + j)).toNatClampNeg = 4 * i + j := qn_cl (by omega)
          have hs4 := (ok.2.2.2 i j hil hjl).1
          have i48 : vp_in (nI (4 * i + j)) 48 := pk_in (4 * i + j) 48 (by omega)
          refine And.intro (pk_in i 12 (by omega)) ?_
          rw [hcl, v4]
          refine br_f (nI_ge hjl (by omega)) (nm_r qn_t4 ⟨i48, ?_⟩)
          rw [hvl]
          refine pk_eq (vs (4 * i + j)) s (fun y => ⟨i48, i48, i48, nm_r ?_ (nm_r (nI_1 j) nx2)⟩) (fun y => nm_r ?_ (nm_r (nI_1 j) nx2)) v5
          · rw [v8, v6, v7, ← qn_In, ← qn_In, ← qn_In, qn_Ia, qn_Is, qn_Ia]
            show _ = qn_I (qo_S i vc vs vn jn bg s + (qs_I (fun j => if vs (4 * i + j) = s then (bg (4 * i + j) : Int) + (vn (4 * i + j) : Int) - (jn (4 * i + j) : Int) else 0) j + (if vs (4 * i + j) = s then (bg (4 * i + j) : Int) + (vn (4 * i + j) : Int) - (jn (4 * i + j) : Int) else 0)))
            rw [if_pos y, Int.add_assoc]
          · show qn_I _ + qn_I 0 = qn_I (qo_S i vc vs vn jn bg s + (qs_I (fun j => if vs (4 * i + j) = s then (bg (4 * i + j) : Int) + (vn (4 * i + j) : Int) - (jn (4 * i + j) : Int) else 0) j + (if vs (4 * i + j) = s then (bg (4 * i + j) : Int) + (vn (4 * i + j) : Int) - (jn (4 * i + j) : Int) else 0)))
            rw [if_neg y, qn_Ia, Int.add_zero, Int.add_zero]
      have := inner (vc i) 0 (by omega)
      refine Exists.intro (vc i + 1) ?_
      rw [show qo_S i vc vs vn jn bg s + qs_I (fun j => if vs (4 * i + j) = s then (bg (4 * i + j) : Int) + (vn (4 * i + j) : Int) - (jn (4 * i + j) : Int) else 0) 0 = qo_S i vc vs vn jn bg s from Int.add_zero _] at this
      exact this
  exact Exists.intro (n + 1) (outer n 0 (by omega))
theorem qo_el (lv : Nat → Nat) (c : Nat) : ∀ d, qo_e lv c d ≤ d := by
  intro d
  induction d with
  | zero => exact Nat.le_refl _
  | succ d ih =>
    unfold qo_e
    split <;> omega
theorem qx_order {post : Int32 → St1 → Prop} {u : St1} {q : Nat} (ok : qf_ok n sv ru ar vc vs vn) (S : qf_S n sv ru ar vc vs vn u) (hq : q < n) (hex : ∃ c, c < n ∧ qo_e (qm_sim n sv ru ar vc vs vn).2.2.2.2.1 c n = q) (H : ∀ u' c, qf_S n sv ru ar vc vs vn u' → qo_P n sv ar vc vs vn (qm_sim n sv ru ar vc vs vn) → c < n → qo_e (qm_sim n sv ru ar vc vs vn).2.2.2.2.1 c n = q → post (nI c) u') : wpX_order post u (nI q) := by
  obtain ⟨cu, ch, en, pe, td, rt, lk, a1, a2, a3, a4, a5, a6, a7, a8, a9, a10, a11, a12, a13, a14, a15, a16, a17, a18, a19, a20, a21, a22, a23, a24, a25, a26, a27⟩ := u
  have F : qf_R n sv ru ar vc vs vn cu a1 a2 a3 a4 a5 a6 := S
  have hn := ok.1
  unfold wpX_order
  refine qx_cu F.1 hn (by omega) (fun _ => br_f (by decide) (qw_run (e := 2) ok F (by omega) (fun ch' en' pe' td' rt' lk' a7' a8' a9' a13' a14' a15' a16' a17' a18' a19' a20' a21' a22' a23' a24' a25' a26' a27' hF hR => ?_))) (fun z => absurd hq z)
  have hP := qo_fin ok hF
  revert hP hR H hex
  generalize qm_sim n sv ru ar vc vs vn = m
  obtain ⟨vo, st, jn, bg, lv, k, lt, ls, la, lw⟩ := m
  intro hex H hR hP
  have R : qr_R n sv vs vo st jn bg lv k lt ls la lw ch' a7' a8' a9' a13' a14' a15' a16' a17' a18' a19' := hR
  have hcu := F.1
  obtain ⟨c0, ⟨hc0, he0⟩, hmin⟩ := pk_least (fun c => c < n ∧ qo_e lv c n = q) hex
  have v9 : ∀ c, c < n → a9' (nI c).toNatClampNeg = nI (lv c) ∧ lv c ≤ 4420 := by
    intro c hc
    rw [qn_cl (by omega)]
    exact ⟨R.2.2.2.2.2.2.1 c hc (hP.2.1 c hc).1, (hP.2.1 c hc).2.2.2⟩
  have outer : ∀ (f i : Nat), i + f = c0 → wX_order_17 post (nI q) cu ch' en' pe' td' rt' lk' a1 a2 a3 a4 a5 a6 a7' a8' a9' a10 a11 a12 a13' a14' a15' a16' a17' a18' a19' a20' a21' a22' a23' a24' a25' a26' a27' (f + 1) (nI i) := by
    intro f
    have inner : ∀ (i : Nat) (J : Int32 → Prop), i < n → (qo_e lv i n = q → post (nI i) (cu, ch', en', pe', td', rt', lk', a1, a2, a3, a4, a5, a6, a7', a8', a9', a10, a11, a12, a13', a14', a15', a16', a17', a18', a19', a20', a21', a22', a23', a24', a25', a26', a27')) → (qo_e lv i n ≠ q → J (nI (i + 1))) → ∀ (h d : Nat), d + h = n → wX_order_30 post J (nI q) (nI i) cu ch' en' pe' td' rt' lk' a1 a2 a3 a4 a5 a6 a7' a8' a9' a10 a11 a12 a13' a14' a15' a16' a17' a18' a19' a20' a21' a22' a23' a24' a25' a26' a27' (h + 1) (nI (qo_e lv i d)) (nI d) := by
      intro i J hi H1 H2 h
      induction h with
      | zero =>
        intro d hd
        have hdn : d = n := by omega
        have hel := qo_el lv i n
        rw [hdn]
        exact br_t (by rw [hcu]; exact Int32.le_refl _) (pk_eq (qo_e lv i n) q (fun y => H1 y) (fun y => nm_r (nI_1 i) (H2 y)))
      | succ h ih2 =>
        intro d hd
        have hdl : d < n := by omega
        have nx := ih2 (d + 1) (by omega)
        obtain ⟨x1, x2⟩ := v9 d hdl
        obtain ⟨y1, y2⟩ := v9 i hi
        have hel := qo_el lv i d
        have yes : (lv d < lv i ∨ (lv d = lv i ∧ d < i)) → wX_order_77 post J (wX_order_30 post J (nI q) (nI i) cu ch' en' pe' td' rt' lk' a1 a2 a3 a4 a5 a6 a7' a8' a9' a10 a11 a12 a13' a14' a15' a16' a17' a18' a19' a20' a21' a22' a23' a24' a25' a26' a27' (h + 1)) (nI q) (nI i) (nI (qo_e lv i d)) (nI d) cu ch' en' pe' td' rt' lk' a1 a2 a3 a4 a5 a6 a7' a8' a9' a10 a11 a12 a13' a14' a15' a16' a17' a18' a19' a20' a21' a22' a23' a24' a25' a26' a27' := by
          intro w
          refine br_f (c := (1 : Int32) = 0) (by decide) (nm_r (nI_1 _) (nm_r (nI_1 d) ?_))
          have e1 : qo_e lv i (d + 1) = qo_e lv i d + 1 := by rw [qo_e, if_pos w]
          rw [e1] at nx
          exact nx
        have no : ¬ (lv d < lv i ∨ (lv d = lv i ∧ d < i)) → wX_order_81 post J (wX_order_30 post J (nI q) (nI i) cu ch' en' pe' td' rt' lk' a1 a2 a3 a4 a5 a6 a7' a8' a9' a10 a11 a12 a13' a14' a15' a16' a17' a18' a19' a20' a21' a22' a23' a24' a25' a26' a27' (h + 1)) (nI q) (nI i) (nI (qo_e lv i d)) (nI d) cu ch' en' pe' td' rt' lk' a1 a2 a3 a4 a5 a6 a7' a8' a9' a10 a11 a12 a13' a14' a15' a16' a17' a18' a19' a20' a21' a22' a23' a24' a25' a26' a27' := by
          intro w
          refine br_t (c := (0 : Int32) = 0) rfl (nm_r (show nI (qo_e lv i d) + 0 = nI (qo_e lv i d) by rw [← nI_0, nI_add, Nat.add_zero]) (nm_r (nI_1 d) ?_))
          have e1 : qo_e lv i (d + 1) = qo_e lv i d := by rw [qo_e, if_neg w, Nat.add_zero]
          rw [e1] at nx
          exact nx
        refine br_f (by rw [hcu]; exact nI_ge hdl (by omega)) ⟨pk_in d 12 (by omega), pk_in i 12 (by omega), ?_⟩
        refine pk_lt (lv d) (lv i) (fun w => yes (Or.inl w)) (fun w => ⟨pk_in d 12 (by omega), pk_in i 12 (by omega), ?_⟩) x1 y1
        refine pk_eq (lv d) (lv i) (fun w2 => ?_) (fun w2 => no (fun w3 => by omega)) x1 y1
        exact pk_le i d (fun w3 => no (fun w4 => by omega)) (fun w3 => yes (Or.inr ⟨w2, w3⟩))
    induction f with
    | zero =>
      intro i hi
      have hic : i = c0 := by omega
      subst hic
      refine br_f (by rw [hcu]; exact nI_ge hc0 (by omega)) (Exists.intro (n + 1) ?_)
      exact inner i _ hc0 (fun _ => H _ i F hP hc0 he0) (fun w => absurd he0 w) n 0 (by omega)
    | succ f ih =>
      intro i hi
      refine br_f (by rw [hcu]; exact nI_ge (by omega) (by omega)) (Exists.intro (n + 1) ?_)
      exact inner i _ (by omega) (fun w => absurd ⟨by omega, w⟩ (hmin i (by omega))) (fun _ => ih (i + 1) (by omega)) n 0 (by omega)
  exact Exists.intro (c0 + 1) (outer c0 0 (by omega))
theorem qx_order' {post : Int32 → St1 → Prop} {u : St1} {q : Nat} (ok : qf_ok n sv ru ar vc vs vn) (S : qf_S n sv ru ar vc vs vn u) (hq : n ≤ q) (hq2 : q < 1048576) (H : ∀ u', qf_S n sv ru ar vc vs vn u' → post (-1) u') : wpX_order post u (nI q) := by
  obtain ⟨cu, ch, en, pe, td, rt, lk, a1, a2, a3, a4, a5, a6, a7, a8, a9, a10, a11, a12, a13, a14, a15, a16, a17, a18, a19, a20, a21, a22, a23, a24, a25, a26, a27⟩ := u
  have F : qf_R n sv ru ar vc vs vn cu a1 a2 a3 a4 a5 a6 := S
  unfold wpX_order
  exact qx_cu F.1 ok.1 hq2 (fun z => absurd z (by omega)) (fun z => br_t rfl (H _ F))
end
end
section
/-- the law's checks of one station, plain -/
theorem qp_cut {lt : Nat → Nat} (t : Nat) : ∀ {k : Nat}, (∀ i j, i ≤ j → j < k → lt i ≤ lt j) → ∃ p, p ≤ k ∧ (∀ i, i < p → lt i ≤ t) ∧ (∀ i, p ≤ i → i < k → t < lt i) := by
  intro k
  induction k with
  | zero => intro _; exact ⟨0, Nat.le_refl _, fun i hi => absurd hi (by omega), fun i _ hi => absurd hi (by omega)⟩
  | succ k ih =>
    intro hs
    obtain ⟨p, h1, h2, h3⟩ := ih (fun i j hij hj => hs i j hij (by omega))
    by_cases e : lt k ≤ t
    · refine ⟨k + 1, Nat.le_refl _, fun i hi => ?_, fun i h4 h5 => absurd h4 (by omega)⟩
      have := hs i k (by omega) (by omega)
      omega
    · refine ⟨p, by omega, h2, fun i h4 h5 => ?_⟩
      by_cases e2 : i = k
      · rw [e2]; omega
      · exact h3 i h4 (by omega)
theorem qp_pre {lt ls : Nat → Nat} {g : Nat → Int} {s t p k : Nat} (hp : p ≤ k) (h2 : ∀ i, i < p → lt i ≤ t) (h3 : ∀ i, p ≤ i → i < k → t < lt i) : qs_I (qi_t lt ls g s t) k = qs_I (qi_e ls g s) p := by
  rw [qs_tail (a := p) (b := k) hp (fun i h4 h5 => ?_)]
  · refine qs_cg (fun i hi => ?_)
    unfold qi_t
    rw [if_pos (h2 i hi)]
  · unfold qi_t
    rw [if_neg (by have := h3 i h4 h5; omega)]
theorem qp_bmono {k : Nat} {lt ls : Nat → Nat} {lw : Nat → Int} {s : Nat} (i : Nat) : qo_b k lt ls lw s i ≤ qo_b k lt ls lw s (i + 1) := by
  rw [qo_b]
  split
  · omega
  · exact Int.le_refl _
theorem qp_bmono' {k : Nat} {lt ls : Nat → Nat} {lw : Nat → Int} {s i : Nat} : ∀ {j : Nat}, i ≤ j → qo_b k lt ls lw s i ≤ qo_b k lt ls lw s j := by
  intro j
  induction j with
  | zero => intro h; rw [show i = 0 by omega]; exact Int.le_refl _
  | succ j ih =>
    intro h
    by_cases e : i = j + 1
    · rw [e]; exact Int.le_refl _
    · exact Int.le_trans (ih (by omega)) (qp_bmono j)
theorem qp_lle {lv : Nat → Nat} : ∀ {n c : Nat}, c < n → lv c ≤ qo_l lv n := by
  intro n
  induction n with
  | zero => intro c h; omega
  | succ n ih =>
    intro c h
    show lv c ≤ max (qo_l lv n) (lv n)
    by_cases e : c = n
    · rw [e]; omega
    · have := ih (c := c) (by omega); omega
theorem qp_lub {lv : Nat → Nat} {b : Nat} : ∀ {n : Nat}, (∀ c, c < n → lv c ≤ b) → qo_l lv n ≤ b := by
  intro n
  induction n with
  | zero => intro _; exact Nat.zero_le _
  | succ n ih =>
    intro h
    have h1 := ih (fun c hc => h c (by omega))
    have h2 := h n (by omega)
    show max (qo_l lv n) (lv n) ≤ b
    omega
/-- the area in closed form -/
theorem qp_area {lt ls : Nat → Nat} {la : Nat → Int} {s e : Nat} (k : Nat) : (qo_a lt ls la s e k).1 + qs_I (qi_e ls la s) k * ((e : Int) - (qo_a lt ls la s e k).2) = qs_I (fun j => if ls j = s then la j * ((e : Int) - ((min (lt j) e : Nat) : Int)) else 0) k := by
  induction k with
  | zero =>
    show (0 : Int) + 0 * _ = 0
    rw [Int.zero_mul]; rfl
  | succ k ih =>
    show _ = qs_I _ k + (if ls k = s then la k * ((e : Int) - ((min (lt k) e : Nat) : Int)) else 0)
    rw [← ih]
    show (qo_a lt ls la s e (k + 1)).1 + (qs_I (qi_e ls la s) k + qi_e ls la s k) * _ = _
    by_cases y : ls k = s
    · have e0 : qi_e ls la s k = la k := if_pos y
      rw [qo_a, if_pos y, if_pos y, e0]
      generalize qs_I (qi_e ls la s) k = A
      generalize (qo_a lt ls la s e k).1 = P
      generalize (qo_a lt ls la s e k).2 = Q
      generalize ((min (lt k) e : Nat) : Int) = M
      show P + A * (M - Q) + (A + la k) * ((e : Int) - M) = P + A * ((e : Int) - Q) + la k * ((e : Int) - M)
      rw [Int.add_mul, ← Int.add_assoc]
      congr 1
      rw [Int.add_assoc, ← Int.mul_add]
      congr 2
      omega
    · have e0 : qi_e ls la s k = 0 := if_neg y
      rw [qo_a, if_neg y, if_neg y, e0, Int.add_zero, Int.add_zero]
section
variable {n : Nat} {sv ru ar vc vs vn : Nat → Nat} {m : qm_M} {s : Nat}
theorem qp_A (P : qo_P n sv ar vc vs vn m) (hs : s < 4) (t : Nat) : 0 ≤ qa_wt m s t ∧ qa_wt m s t ≤ qa_at m s t ∧ qa_at m s t ≤ 144 ∧ qa_at m s t - qa_wt m s t ≤ (sv s : Int) ∧ (qa_at m s t - qa_wt m s t = (sv s : Int) ∨ qa_wt m s t = 0) ∧ qa_wt m s t ≤ qa_lo m s ∧ qa_lo m s ≤ 144 := by
  obtain ⟨vo, st, jn, bg, lv, k, lt, ls, la, lw⟩ := m
  obtain ⟨p1, p2, p3, p4, p5, p6, p7, p8, p9⟩ := P
  obtain ⟨p, c1, c2, c3⟩ := qp_cut t p5
  have e1 : qs_I (qi_t lt ls la s t) k = qs_I (qi_e ls la s) p := qp_pre c1 c2 c3
  have e2 : qs_I (qi_t lt ls lw s t) k = qs_I (qi_e ls lw s) p := qp_pre c1 c2 c3
  have g := p8 s t hs
  unfold qi_G at g
  show 0 ≤ qs_I (qi_t lt ls lw s t) k ∧ qs_I (qi_t lt ls lw s t) k ≤ qs_I (qi_t lt ls la s t) k ∧ qs_I (qi_t lt ls la s t) k ≤ 144 ∧ qs_I (qi_t lt ls la s t) k - qs_I (qi_t lt ls lw s t) k ≤ (sv s : Int) ∧ (qs_I (qi_t lt ls la s t) k - qs_I (qi_t lt ls lw s t) k = (sv s : Int) ∨ qs_I (qi_t lt ls lw s t) k = 0) ∧ qs_I (qi_t lt ls lw s t) k ≤ qo_b k lt ls lw s k ∧ qo_b k lt ls lw s k ≤ 144
  have hle : ∀ (f : Nat → Int) (i : Nat), i ≤ k → (∀ j, j < k → f j ≤ 1) → qs_I (qi_e ls f s) i ≤ 144 := by
    intro f i hi hf
    have := qs_cst (f := qi_e ls f s) (b := 1) (k := i) (fun j hj => by
      unfold qi_e
      have := hf j (by omega)
      split <;> omega)
    omega
  have hW : ∀ i, i ≤ k → qs_I (qi_e ls lw s) i ≤ 144 := fun i hi => hle lw i hi (fun j hj => by have := (p4 j hj).2.2.1; omega)
  have hA := hle la p c1 (fun j hj => by have := (p4 j hj).2.2.1; omega)
  have hB : ∀ i, i ≤ k → 0 ≤ qo_b k lt ls lw s i ∧ qo_b k lt ls lw s i ≤ 144 := by
    intro i
    induction i with
    | zero => intro _; exact ⟨Int.le_refl _, show (0 : Int) ≤ 144 by decide⟩
    | succ i ih =>
      intro hi
      have h1 := ih (by omega)
      have h2 := hW (i + 1) hi
      have h3 := (p7 s (i + 1) hs hi).1
      rw [qo_b]
      split <;> omega
  have h7 := p7 s p hs c1
  refine ⟨by rw [e2]; exact h7.1, by rw [e1, e2]; exact h7.2, by rw [e1]; exact hA, g.1, g.2, ?_, (hB k (Nat.le_refl _)).2⟩
  rw [e2]
  rcases Nat.eq_zero_or_pos p with z | z
  · rw [z]
    exact (hB k (Nat.le_refl _)).1
  · obtain ⟨q, rfl⟩ : ∃ q, p = q + 1 := ⟨p - 1, by omega⟩
    refine Int.le_trans ?_ (qp_bmono' (k := k) (lt := lt) (ls := ls) (lw := lw) (s := s) c1)
    rw [qo_b]
    by_cases y : qo_b k lt ls lw s q < qs_I (qi_e ls lw s) (q + 1)
    · have ho : q + 1 = k ∨ lt q < lt (q + 1) := by
        by_cases x : q + 1 = k
        · exact Or.inl x
        · refine Or.inr ?_
          have h1 := c2 q (by omega)
          have h2 := c3 (q + 1) (Nat.le_refl _) (by omega)
          omega
      exact Int.le_of_eq (if_pos ⟨ho, y⟩).symm
    · rw [if_neg (fun w => y w.2)]
      omega
theorem qp_last (P : qo_P n sv ar vc vs vn m) : qa_la n m ≤ 4420 := by
  obtain ⟨vo, st, jn, bg, lv, k, lt, ls, la, lw⟩ := m
  obtain ⟨p1, p2, _⟩ := P
  exact qp_lub (fun c hc => (p2 c hc).2.2.2)
theorem qp_zero (P : qo_P n sv ar vc vs vn m) (hs : s < 4) {t : Nat} (ht : qa_la n m ≤ t) : qa_at m s t = 0 := by
  obtain ⟨vo, st, jn, bg, lv, k, lt, ls, la, lw⟩ := m
  obtain ⟨p1, p2, p3, p4, p5, p6, p7, p8, p9⟩ := P
  have ht' : qo_l lv n ≤ t := ht
  show qs_I (qi_t lt ls la s t) k = 0
  rw [qp_pre (p := k) (Nat.le_refl _) (fun i hi => ?_) (fun i h1 h2 => absurd h1 (by omega))]
  · exact (p6 s hs).1
  · obtain ⟨c, hc, h⟩ := (p4 i hi).2.2.2
    have := qp_lle (lv := lv) hc
    omega
theorem qp_tick (t : Nat) : qa_ar m s (t + 1) = qa_ar m s t + qa_at m s t := by
  obtain ⟨vo, st, jn, bg, lv, k, lt, ls, la, lw⟩ := m
  show (qo_a lt ls la s (t + 1) k).1 + qs_I (qi_e ls la s) k * (((t + 1 : Nat) : Int) - (qo_a lt ls la s (t + 1) k).2) = ((qo_a lt ls la s t k).1 + qs_I (qi_e ls la s) k * ((t : Int) - (qo_a lt ls la s t k).2)) + qs_I (qi_t lt ls la s t) k
  rw [qp_area, qp_area, ← qs_ad]
  refine qs_cg (fun j _ => ?_)
  show (if ls j = s then la j * (((t + 1 : Nat) : Int) - ((min (lt j) (t + 1) : Nat) : Int)) else 0) = (if ls j = s then la j * ((t : Int) - ((min (lt j) t : Nat) : Int)) else 0) + qi_t lt ls la s t j
  unfold qi_t qi_e
  by_cases y : ls j = s
  · rw [if_pos y, if_pos y, if_pos y]
    by_cases x : lt j ≤ t
    · rw [if_pos x, show ((t + 1 : Nat) : Int) - ((min (lt j) (t + 1) : Nat) : Int) = ((t : Int) - ((min (lt j) t : Nat) : Int)) + 1 by omega, Int.mul_add, Int.mul_one]
    · rw [if_neg x, show ((t + 1 : Nat) : Int) - ((min (lt j) (t + 1) : Nat) : Int) = 0 by omega, show (t : Int) - ((min (lt j) t : Nat) : Int) = 0 by omega, Int.add_zero]
  · rw [if_neg y, if_neg y, if_neg y, ite_self, Int.add_zero]
theorem qp_sum2 {f g : Nat → Int} {b : Int} : ∀ {k : Nat}, (∀ i, i < k → f i = b * g i) → qs_I f k = b * qs_I g k := by
  intro k
  induction k with
  | zero => intro _; show (0 : Int) = b * 0; rw [Int.mul_zero]
  | succ k ih =>
    intro h
    show qs_I f k + f k = b * (qs_I g k + g k)
    rw [ih (fun i hi => h i (by omega)), h k (by omega), Int.mul_add]
theorem qp_stay (P : qo_P n sv ar vc vs vn m) (hs : s < 4) : qa_ar m s (qa_la n m) = qa_sy n vc vs vn m s := by
  obtain ⟨vo, st, jn, bg, lv, k, lt, ls, la, lw⟩ := m
  obtain ⟨p1, p2, p3, p4, p5, p6, p7, p8, p9⟩ := P
  show (qo_a lt ls la s (qo_l lv n) k).1 + qs_I (qi_e ls la s) k * (((qo_l lv n : Nat) : Int) - (qo_a lt ls la s (qo_l lv n) k).2) = qo_S n vc vs vn jn bg s
  rw [qp_area]
  have h9 := p9 s hs
  unfold qi_D at h9
  have hsum : qs_I (fun j => if ls j = s then la j * (((qo_l lv n : Nat) : Int) - ((min (lt j) (qo_l lv n) : Nat) : Int)) else 0) k + qs_I (fun i => if ls i = s then la i * (lt i : Int) else 0) k = ((qo_l lv n : Nat) : Int) * qs_I (qi_e ls la s) k := by
    rw [← qs_ad]
    refine qp_sum2 (fun j hj => ?_)
    obtain ⟨c, hc, h⟩ := (p4 j hj).2.2.2
    have hl := qp_lle (lv := lv) hc
    show (if ls j = s then la j * (((qo_l lv n : Nat) : Int) - ((min (lt j) (qo_l lv n) : Nat) : Int)) else 0) + (if ls j = s then la j * (lt j : Int) else 0) = ((qo_l lv n : Nat) : Int) * qi_e ls la s j
    unfold qi_e
    by_cases y : ls j = s
    · rw [if_pos y, if_pos y, if_pos y, ← Int.mul_add, Int.mul_comm]
      congr 1
      omega
    · rw [if_neg y, if_neg y, if_neg y, Int.mul_zero]; rfl
  rw [(p6 s hs).1, Int.mul_zero, h9] at hsum
  omega
/-- busy: at most the time that went by, at most the stays -/
theorem qp_busy (P : qo_P n sv ar vc vs vn m) (hs : s < 4) : 0 ≤ qa_by m s ∧ qa_by m s ≤ (qa_la n m : Int) ∧ qa_by m s ≤ qa_sy n vc vs vn m s := by
  have hst := qp_stay P hs
  obtain ⟨vo, st, jn, bg, lv, k, lt, ls, la, lw⟩ := m
  obtain ⟨p1, p2, p3, p4, p5, p6, p7, p8, p9⟩ := P
  have hst' : (qo_a lt ls la s (qo_l lv n) k).1 + qs_I (qi_e ls la s) k * (((qo_l lv n : Nat) : Int) - (qo_a lt ls la s (qo_l lv n) k).2) = qo_S n vc vs vn jn bg s := hst
  rw [(p6 s hs).1, Int.zero_mul, Int.add_zero] at hst'
  have hlast : ∀ i, i < k → lt i ≤ qo_l lv n := by
    intro i hi
    obtain ⟨c, hc, h⟩ := (p4 i hi).2.2.2
    have := qp_lle (lv := lv) hc
    omega
  have main : ∀ i, i ≤ k → (qo_a lt ls la s (qo_l lv n) i).2 = (qo_y lt ls la lw s i).2 ∧ 0 ≤ (qo_y lt ls la lw s i).1 ∧ (qo_y lt ls la lw s i).1 ≤ (qo_y lt ls la lw s i).2 ∧ (∀ j, i ≤ j → j < k → (qo_y lt ls la lw s i).2 ≤ (lt j : Int)) ∧ (qo_y lt ls la lw s i).2 ≤ ((qo_l lv n : Nat) : Int) ∧ (qo_y lt ls la lw s i).1 ≤ (qo_a lt ls la s (qo_l lv n) i).1 := by
    intro i
    induction i with
    | zero => intro _; exact ⟨rfl, Int.le_refl _, Int.le_refl _, fun j _ _ => Int.natCast_nonneg _, Int.natCast_nonneg _, Int.le_refl _⟩
    | succ i ih =>
      intro hi
      obtain ⟨h1, h2, h3, h4, h5, h6⟩ := ih (by omega)
      have hl := hlast i (by omega)
      have h4i := h4 i (Nat.le_refl _) (by omega)
      have h7 := p7 s i hs (by omega)
      by_cases y : ls i = s
      · have ea : qo_a lt ls la s (qo_l lv n) (i + 1) = ((qo_a lt ls la s (qo_l lv n) i).1 + qs_I (qi_e ls la s) i * (((min (lt i) (qo_l lv n) : Nat) : Int) - (qo_a lt ls la s (qo_l lv n) i).2), ((min (lt i) (qo_l lv n) : Nat) : Int)) := by rw [qo_a, if_pos y]
        have ey : qo_y lt ls la lw s (i + 1) = ((qo_y lt ls la lw s i).1 + (if qs_I (qi_e ls la s) i - qs_I (qi_e ls lw s) i ≤ 0 then 0 else (lt i : Int) - (qo_y lt ls la lw s i).2), (lt i : Int)) := by rw [qo_y, if_pos y]
        have em : ((min (lt i) (qo_l lv n) : Nat) : Int) = (lt i : Int) := by omega
        rw [ea, ey, em]
        refine ⟨rfl, ?_, ?_, fun j h8 h9 => ?_, by omega, ?_⟩
        · show 0 ≤ (qo_y lt ls la lw s i).1 + _
          split <;> omega
        · show (qo_y lt ls la lw s i).1 + _ ≤ (lt i : Int)
          split <;> omega
        · have := p5 i j (by omega) h9
          show (lt i : Int) ≤ (lt j : Int)
          omega
        · show (qo_y lt ls la lw s i).1 + (if qs_I (qi_e ls la s) i - qs_I (qi_e ls lw s) i ≤ 0 then 0 else (lt i : Int) - (qo_y lt ls la lw s i).2) ≤ (qo_a lt ls la s (qo_l lv n) i).1 + qs_I (qi_e ls la s) i * ((lt i : Int) - (qo_a lt ls la s (qo_l lv n) i).2)
          rw [h1]
          have hd : 0 ≤ (lt i : Int) - (qo_y lt ls la lw s i).2 := by omega
          have hmul : ∀ A : Int, 0 ≤ A → 0 ≤ A * ((lt i : Int) - (qo_y lt ls la lw s i).2) := fun A hA => Int.mul_nonneg hA hd
          by_cases x : qs_I (qi_e ls la s) i - qs_I (qi_e ls lw s) i ≤ 0
          · rw [if_pos x]
            have := hmul (qs_I (qi_e ls la s) i) (by omega)
            omega
          · rw [if_neg x]
            have := hmul (qs_I (qi_e ls la s) i - 1) (by omega)
            rw [Int.sub_mul, Int.one_mul] at this
            omega
      · have ea : qo_a lt ls la s (qo_l lv n) (i + 1) = qo_a lt ls la s (qo_l lv n) i := by rw [qo_a, if_neg y]
        have ey : qo_y lt ls la lw s (i + 1) = qo_y lt ls la lw s i := by rw [qo_y, if_neg y]
        rw [ea, ey]
        exact ⟨h1, h2, h3, fun j h8 h9 => h4 j (by omega) h9, h5, h6⟩
  obtain ⟨h1, h2, h3, h4, h5, h6⟩ := main k (Nat.le_refl _)
  show 0 ≤ (qo_y lt ls la lw s k).1 ∧ (qo_y lt ls la lw s k).1 ≤ ((qo_l lv n : Nat) : Int) ∧ (qo_y lt ls la lw s k).1 ≤ qo_S n vc vs vn jn bg s
  rw [← hst']
  exact ⟨h2, by omega, h6⟩
theorem qp_sbd (ok : qf_ok n sv ru ar vc vs vn) (P : qo_P n sv ar vc vs vn m) : qa_sy n vc vs vn m s ≤ 1000000 := by
  obtain ⟨vo, st, jn, bg, lv, k, lt, ls, la, lw⟩ := m
  obtain ⟨p1, p2, p3, p4, p5, p6, p7, p8, p9⟩ := P
  have hn := ok.1
  show qo_S n vc vs vn jn bg s ≤ 1000000
  have h := qs_cst (f := fun c => qs_I (fun j => if vs (4 * c + j) = s then (bg (4 * c + j) : Int) + (vn (4 * c + j) : Int) - (jn (4 * c + j) : Int) else 0) (vc c)) (b := 20000) (k := n) (fun c hc => by
    have hv := (ok.2.2.1 c hc).2
    have h2 := qs_cst (f := fun j => if vs (4 * c + j) = s then (bg (4 * c + j) : Int) + (vn (4 * c + j) : Int) - (jn (4 * c + j) : Int) else 0) (b := 5000) (k := vc c) (fun j hj => by
      have h3 := p3 c j hc hj
      have h4 := ok.2.2.2 c j hc hj
      show (if vs (4 * c + j) = s then (bg (4 * c + j) : Int) + (vn (4 * c + j) : Int) - (jn (4 * c + j) : Int) else 0) ≤ 5000
      split <;> omega)
    have h5 : (vc c : Int) * 5000 ≤ 20000 := by omega
    exact Int.le_trans h2 h5)
  have h6 : (n : Int) * 20000 ≤ 1000000 := by omega
  exact Int.le_trans h h6
end
/-- the order of leaving -/
theorem qp_lex {lv : Nat → Nat} {c d : Nat} (h : lv c < lv d ∨ (lv c = lv d ∧ c < d)) : ∀ m, qo_e lv c m + (if c < m then 1 else 0) ≤ qo_e lv d m := by
  intro m
  induction m with
  | zero => rw [if_neg (by omega)]; exact Nat.le_refl _
  | succ m ih =>
    unfold qo_e
    by_cases e : m = c
    · rw [e] at ih ⊢
      rw [if_neg (by omega)] at ih
      rw [if_pos (show c < c + 1 by omega), if_neg (show ¬ (lv c < lv c ∨ (lv c = lv c ∧ c < c)) by omega), if_pos h]
      omega
    · have hi : (if c < m + 1 then 1 else 0) = (if c < m then 1 else 0) := by
        by_cases e2 : c < m
        · rw [if_pos e2, if_pos (by omega)]
        · rw [if_neg e2, if_neg (by omega)]
      rw [hi]
      by_cases e3 : lv m < lv c ∨ (lv m = lv c ∧ m < c)
      · rw [if_pos e3, if_pos (show lv m < lv d ∨ (lv m = lv d ∧ m < d) by omega)]; omega
      · rw [if_neg e3]; omega
theorem qp_lt {lv : Nat → Nat} {c d n : Nat} (hc : c < n) (h : lv c < lv d ∨ (lv c = lv d ∧ c < d)) : qo_e lv c n < qo_e lv d n := by
  have := qp_lex h n
  rw [if_pos hc] at this
  omega
theorem qp_inj {lv : Nat → Nat} {c d n : Nat} (hc : c < n) (hd : d < n) (h : qo_e lv c n = qo_e lv d n) : c = d := by
  rcases Nat.lt_trichotomy c d with y | y | y
  · rcases Nat.lt_or_ge (lv d) (lv c) with z | z
    · have := qp_lt (n := n) hd (Or.inl z); omega
    · have := qp_lt (lv := lv) (c := c) (d := d) (n := n) hc (by omega); omega
  · exact y
  · rcases Nat.lt_or_ge (lv c) (lv d) with z | z
    · have := qp_lt (n := n) hc (Or.inl z); omega
    · have := qp_lt (lv := lv) (c := d) (d := c) (n := n) hd (by omega); omega
theorem qp_bd {lv : Nat → Nat} {c : Nat} : ∀ m, qo_e lv c m + (if c < m then 1 else 0) ≤ m := by
  intro m
  induction m with
  | zero => rw [if_neg (by omega)]; exact Nat.le_refl _
  | succ m ih =>
    unfold qo_e
    by_cases e : m = c
    · rw [e] at ih ⊢
      rw [if_neg (by omega)] at ih
      rw [if_pos (show c < c + 1 by omega), if_neg (show ¬ (lv c < lv c ∨ (lv c = lv c ∧ c < c)) by omega)]
      omega
    · have hi : (if c < m + 1 then 1 else 0) = (if c < m then 1 else 0) := by
        by_cases e2 : c < m
        · rw [if_pos e2, if_pos (by omega)]
        · rw [if_neg e2, if_neg (by omega)]
      rw [hi]
      split <;> omega
theorem qp_sur {lv : Nat → Nat} {n q : Nat} (hq : q < n) : ∃ c, c < n ∧ qo_e lv c n = q := by
  rcases Classical.em (∃ c, c < n ∧ qo_e lv c n = q) with z | z
  · exact z
  · exfalso
    have hnd : ((List.range n).map (fun c => qo_e lv c n)).Nodup := by
      unfold List.Nodup
      rw [List.pairwise_map]
      refine List.Pairwise.imp_of_mem (fun {a b} ha hb hab => ?_) (List.nodup_range (n := n))
      exact fun e => hab (qp_inj (List.mem_range.mp ha) (List.mem_range.mp hb) e)
    have hnot : q ∉ (List.range n).map (fun c => qo_e lv c n) := by
      intro hm
      obtain ⟨c, hc, e⟩ := List.mem_map.mp hm
      exact z ⟨c, List.mem_range.mp hc, e⟩
    have := qt_len (k := n) (List.nodup_cons.mpr ⟨hnot, hnd⟩) (fun x hx => by
      rcases List.mem_cons.mp hx with w | w
      · rw [w]; exact hq
      · obtain ⟨c, hc, e⟩ := List.mem_map.mp w
        have := qp_bd (lv := lv) (c := c) n
        rw [if_pos (List.mem_range.mp hc)] at this
        omega)
    rw [List.length_cons, List.length_map, List.length_range] at this
    omega
theorem qp_max {lv : Nat → Nat} {n c : Nat} (hc : c < n) (h : qo_e lv c n + 1 = n) : qo_l lv n = lv c := by
  have h1 := qp_lle (lv := lv) hc
  have h2 : qo_l lv n ≤ lv c := qp_lub (fun d hd => by
    rcases Nat.lt_or_ge (lv c) (lv d) with z | z
    · have h3 := qp_lt (n := n) hc (Or.inl z)
      have h4 := qp_bd (lv := lv) (c := d) n
      rw [if_pos hd] at h4
      omega
    · exact z)
  omega
end
section
section
variable {n : Nat} {sv ru ar vc vs vn : Nat → Nat}
theorem qx_keep {post : St1 → Prop} {cu ch en pe td rt lk : Int32} {a1 a2 a3 a4 a5 a6 a7 a8 a9 a10 a11 a12 a13 a14 a15 a16 a17 a18 a19 a20 a21 a22 a23 a24 a25 a26 a27 : Nat → Int32} (hn : n ≤ 12) (hcu : cu = nI n) (H : ∀ a10' a11' a12', (∀ c, c < n → a10' c = a9 c) → (∀ v, v < 48 → a11' v = a7 v ∧ a12' v = a8 v) → post (cu, ch, en, pe, td, rt, lk, a1, a2, a3, a4, a5, a6, a7, a8, a9, a10', a11', a12', a13, a14, a15, a16, a17, a18, a19, a20, a21, a22, a23, a24, a25, a26, a27)) : wpX_keepTimes post (cu, ch, en, pe, td, rt, lk, a1, a2, a3, a4, a5, a6, a7, a8, a9, a10, a11, a12, a13, a14, a15, a16, a17, a18, a19, a20, a21, a22, a23, a24, a25, a26, a27) := by
  refine pk_loop (σ := (Nat → Int32) × (Nat → Int32)) (fun j i s => wX_keepTimes_2 post cu ch en pe td rt lk j (nI i) a1 a2 a3 a4 a5 a6 a7 a8 a9 a10 s.1 s.2 a13 a14 a15 a16 a17 a18 a19 a20 a21 a22 a23 a24 a25 a26 a27) (fun i s => ∀ v, v < i → s.1 v = a7 v ∧ s.2 v = a8 v) 48 0 (a11, a12) (by omega) (fun v hv => absurd hv (by omega)) ?_ ?_
  · intro j s hs
    refine br_t (Int32.le_refl _) ?_
    refine pk_loop (fun j i t => wX_keepTimes_40 post cu ch en pe td rt lk j (nI i) a1 a2 a3 a4 a5 a6 a7 a8 a9 t s.1 s.2 a13 a14 a15 a16 a17 a18 a19 a20 a21 a22 a23 a24 a25 a26 a27) (fun i t => ∀ c, c < i → t c = a9 c) n 0 a10 (by omega) (fun v hv => absurd hv (by omega)) ?_ ?_
    · intro j t ht
      exact br_t (by rw [hcu]; exact Int32.le_refl _) (H t s.1 s.2 ht hs)
    · intro j i t hi ht hw
      refine br_f (by rw [hcu]; exact nI_ge hi (by omega)) ⟨pk_in i 12 (by omega), pk_in i 12 (by omega), nm_e (nm_r (nI_1 i) (hw _ (fun d hd => ?_)))⟩
      rw [qn_cl (show i < 1048576 by omega)]
      by_cases e : d = i
      · rw [e, pk_us]
      · rw [pk_un e]; exact ht d (by omega)
  · intro j i s hi hs hw
    refine br_f (nI_ge (b := 48) hi (by decide)) ⟨pk_in i 48 hi, pk_in i 48 hi, nm_e ⟨pk_in i 48 hi, pk_in i 48 hi, nm_e (nm_r (nI_1 i) (hw (upd s.1 (nI i).toNatClampNeg (a7 (nI i).toNatClampNeg), upd s.2 (nI i).toNatClampNeg (a8 (nI i).toNatClampNeg)) (fun d hd => ?_)))⟩⟩
    rw [qn_cl (show i < 1048576 by omega)]
    show upd s.1 i (a7 i) d = a7 d ∧ upd s.2 i (a8 i) d = a8 d
    by_cases e : d = i
    · rw [e, pk_us, pk_us]; exact ⟨rfl, rfl⟩
    · rw [pk_un e, pk_un e]; exact hs d (by omega)
theorem qx_ag2 {post : Int32 → St1 → Prop} {cu ch en pe td rt lk : Int32} {a1 a2 a3 a4 a5 a6 a7 a8 a9 a10 a11 a12 a13 a14 a15 a16 a17 a18 a19 a20 a21 a22 a23 a24 a25 a26 a27 : Nat → Int32} {m : qm_M} (ok : qf_ok n sv ru ar vc vs vn) (F : qf_R n sv ru ar vc vs vn cu a1 a2 a3 a4 a5 a6) (hP : qo_P n sv ar vc vs vn m) (hR : qr_J n sv vs m ch a7 a8 a9 a13 a14 a15 a16 a17 a18 a19) (h10 : ∀ c, c < n → a10 c = nI (m.2.2.2.2.1 c)) (h11 : ∀ c j, c < n → j < vc c → a11 (4 * c + j) = nI (m.2.2.1 (4 * c + j)) ∧ a12 (4 * c + j) = nI (m.2.2.2.1 (4 * c + j))) (H : post 1 (cu, ch, en, pe, td, rt, lk, a1, a2, a3, a4, a5, a6, a7, a8, a9, a10, a11, a12, a13, a14, a15, a16, a17, a18, a19, a20, a21, a22, a23, a24, a25, a26, a27)) : ∃ fu, wX_agree_35 post cu ch en pe td rt lk a1 a2 a3 a4 a5 a6 a7 a8 a9 a10 a11 a12 a13 a14 a15 a16 a17 a18 a19 a20 a21 a22 a23 a24 a25 a26 a27 fu 1 0 := by
  obtain ⟨vo, st, jn, bg, lv, k, lt, ls, la, lw⟩ := m
  have R : qr_R n sv vs vo st jn bg lv k lt ls la lw ch a7 a8 a9 a13 a14 a15 a16 a17 a18 a19 := hR
  have hn := ok.1
  have hcu := F.1
  refine pk_loop (σ := Unit) (fun j i _ => wX_agree_35 post cu ch en pe td rt lk a1 a2 a3 a4 a5 a6 a7 a8 a9 a10 a11 a12 a13 a14 a15 a16 a17 a18 a19 a20 a21 a22 a23 a24 a25 a26 a27 j 1 (nI i)) (fun _ _ => True) 48 0 () (by omega) trivial ?_ ?_
  · intro j _ _
    refine br_t (Int32.le_refl _) ?_
    refine pk_loop (σ := Unit) (fun j i _ => wX_agree_114 post cu ch en pe td rt lk a1 a2 a3 a4 a5 a6 a7 a8 a9 a10 a11 a12 a13 a14 a15 a16 a17 a18 a19 a20 a21 a22 a23 a24 a25 a26 a27 j 1 (nI i)) (fun _ _ => True) n 0 () (by omega) trivial ?_ ?_
    · intro j _ _
      exact br_t (by rw [hcu]; exact Int32.le_refl _) ⟨rfl, H⟩
    · intro j i _ hi _ hw
      refine br_f (by rw [hcu]; exact nI_ge hi (by omega)) (br_f (by decide) ⟨pk_in i 12 (by omega), pk_in i 12 (by omega), br_t ?_ (nm_r (nI_1 i) (hw () trivial))⟩)
      rw [qn_cl (show i < 1048576 by omega), h10 i hi, R.2.2.2.2.2.2.1 i hi (hP.2.1 i hi).1]
  · intro j i _ hi _ hw
    have hd : nI i / 4 = nI (i / 4) := pk_div (d := 4) (by omega) (by decide) (by decide)
    have hr : nI i - nI i / 4 * 4 = nI (i % 4) := pk_rem (d := 4) (by omega) (by decide) (by decide)
    refine br_f (nI_ge (b := 48) hi (by decide)) ⟨qn_4, qn_4, ?_⟩
    rw [hr, hd]
    refine qx_vi ok F (by omega) (by omega) (fun z y => br_f (by decide) (br_f (by decide) ?_)) (fun z => br_f (by decide) (br_t rfl (nm_r (nI_1 i) (hw () trivial))))
    have hv : i = 4 * (i / 4) + i % 4 := by omega
    obtain ⟨x1, x2⟩ := h11 (i / 4) (i % 4) z y
    have v7 := R.2.2.2.2.1 (i / 4) (i % 4) z (Or.inl (by rw [(hP.2.1 _ z).2.1]; exact y))
    have v8 := R.2.2.2.2.2.1 (i / 4) (i % 4) z (Or.inl (by rw [(hP.2.1 _ z).2.1]; exact y))
    rw [← hv] at x1 x2 v7 v8
    have x1' : a11 i = nI (jn i) := x1
    have x2' : a12 i = nI (bg i) := x2
    refine ⟨pk_in i 48 hi, pk_in i 48 hi, ?_⟩
    rw [qn_cl (show i < 1048576 by omega)]
    exact br_t (by rw [x1', v7]) ⟨pk_in i 48 hi, pk_in i 48 hi, br_t (by rw [x2', v8]) (nm_r (nI_1 i) (hw () trivial))⟩
theorem qx_agree {post : Int32 → St1 → Prop} {u : St1} {e d : Nat} (ok : qf_ok n sv ru ar vc vs vn) (S : qf_S n sv ru ar vc vs vn u) (he : e < 4) (hd : d < 4) (H : ∀ u', qf_S n sv ru ar vc vs vn u' → post 1 u') : wpX_agree post u (nI e) (nI d) := by
  obtain ⟨cu, ch, en, pe, td, rt, lk, a1, a2, a3, a4, a5, a6, a7, a8, a9, a10, a11, a12, a13, a14, a15, a16, a17, a18, a19, a20, a21, a22, a23, a24, a25, a26, a27⟩ := u
  have F : qf_R n sv ru ar vc vs vn cu a1 a2 a3 a4 a5 a6 := S
  have hn := ok.1
  unfold wpX_agree
  refine qx_en he (br_f (by decide) (qx_en hd (br_f (by decide) (qw_run ok F he (fun ch' en' pe' td' rt' lk' a7' a8' a9' a13' a14' a15' a16' a17' a18' a19' a20' a21' a22' a23' a24' a25' a26' a27' hF hR => ?_)))))
  refine qx_keep hn F.1 (fun a10' a11' a12' k10 k11 => ?_)
  refine qw_run ok F hd (fun ch'' en'' pe'' td'' rt'' lk'' a7'' a8'' a9'' a13'' a14'' a15'' a16'' a17'' a18'' a19'' a20'' a21'' a22'' a23'' a24'' a25'' a26'' a27'' hF2 hR2 => ?_)
  have hP := qo_fin ok hF
  revert hP hR hR2
  generalize qm_sim n sv ru ar vc vs vn = m
  obtain ⟨vo, st, jn, bg, lv, k, lt, ls, la, lw⟩ := m
  intro hR hR2 hP
  have R : qr_R n sv vs vo st jn bg lv k lt ls la lw ch' a7' a8' a9' a13' a14' a15' a16' a17' a18' a19' := hR
  refine qx_ag2 ok F hP hR2 (fun c hc => ?_) (fun c j hc hj => ?_) (H _ F)
  · rw [k10 c hc]
    exact R.2.2.2.2.2.2.1 c hc (hP.2.1 c hc).1
  · have hv := (ok.2.2.1 c hc).2
    obtain ⟨y1, y2⟩ := k11 (4 * c + j) (by omega)
    rw [y1, y2]
    exact ⟨R.2.2.2.2.1 c j hc (Or.inl (by rw [(hP.2.1 c hc).2.1]; exact hj)), R.2.2.2.2.2.1 c j hc (Or.inl (by rw [(hP.2.1 c hc).2.1]; exact hj))⟩
end
end
section
section
variable {n : Nat} {sv ru ar vc vs vn : Nat → Nat}
theorem qk_cust {post : Int32 → St1 → Prop} {u : St1} {c e : Nat} {needs : Int64} (ok : qf_ok n sv ru ar vc vs vn) (S : qf_S n sv ru ar vc vs vn u) (hc : c < n) (he : e < 4) (hnd : ∀ j, j < 2 → c < 6 → ((needs >>> ((5 * (2 * nI c + nI j)).toInt64 &&& 63)).toInt32) &&& 31 = nI (if j < vc c then vn (4 * c + j) else 0))
    (H : ∀ u', qf_S n sv ru ar vc vs vn u' → post 1 u') : wpL_customer post u (nI c) (nI (ar c)) needs (nI e) := by
  obtain ⟨cu, ch, en, pe, td, rt, lk, a1, a2, a3, a4, a5, a6, a7, a8, a9, a10, a11, a12, a13, a14, a15, a16, a17, a18, a19, a20, a21, a22, a23, a24, a25, a26, a27⟩ := u
  have F0 : qf_R n sv ru ar vc vs vn cu a1 a2 a3 a4 a5 a6 := S
  have hn := ok.1
  have hv4 := (ok.2.2.1 c hc).2
  have main : ∀ (f j : Nat) (cu ch en pe td rt lk : Int32) (a1 a2 a3 a4 a5 a6 a7 a8 a9 a10 a11 a12 a13 a14 a15 a16 a17 a18 a19 a20 a21 a22 a23 a24 a25 a26 a27 : Nat → Int32), j + f = 4 → qf_R n sv ru ar vc vs vn cu a1 a2 a3 a4 a5 a6 → wL_customer_9 post (nI c) needs (nI e) (f + 1) (nI (qi_x ar vn (qm_sim n sv ru ar vc vs vn).2.2.2.1 c (min j (vc c)))) 1 (nI j) cu ch en pe td rt lk a1 a2 a3 a4 a5 a6 a7 a8 a9 a10 a11 a12 a13 a14 a15 a16 a17 a18 a19 a20 a21 a22 a23 a24 a25 a26 a27 := by
    intro f
    induction f with
    | zero =>
      intro j cu ch en pe td rt lk a1 a2 a3 a4 a5 a6 a7 a8 a9 a10 a11 a12 a13 a14 a15 a16 a17 a18 a19 a20 a21 a22 a23 a24 a25 a26 a27 hj F
      have hj4 : j = 4 := by omega
      subst hj4
      refine br_t (Int32.le_refl _) (br_f (by decide) (qx_leaves ok F he (by omega) (fun u1 S1 P1 => ?_)))
      obtain ⟨cu', ch', en', pe', td', rt', lk', a1', a2', a3', a4', a5', a6', a7', a8', a9', a10', a11', a12', a13', a14', a15', a16', a17', a18', a19', a20', a21', a22', a23', a24', a25', a26', a27'⟩ := u1
      refine br_t ?_ (H _ S1)
      have hP := P1 hc
      revert hP
      generalize qm_sim n sv ru ar vc vs vn = m
      intro hP
      obtain ⟨vo, st, jn, bg, lv, k, lt, ls, la, lw⟩ := m
      show (if c < n then nI (lv c) else -1) = nI (qi_x ar vn bg c (min 4 (vc c)))
      rw [if_pos hc, (hP.2.1 c hc).2.2.1, show min 4 (vc c) = vc c by omega]
    | succ f ih =>
      intro j cu ch en pe td rt lk a1 a2 a3 a4 a5 a6 a7 a8 a9 a10 a11 a12 a13 a14 a15 a16 a17 a18 a19 a20 a21 a22 a23 a24 a25 a26 a27 hj F
      refine br_f (nI_ge (b := 4) (by omega) (by decide)) (qx_joins ok F (by omega) (by omega) (fun u1 S1 P1 => ?_))
      obtain ⟨cu', ch', en', pe', td', rt', lk', a1', a2', a3', a4', a5', a6', a7', a8', a9', a10', a11', a12', a13', a14', a15', a16', a17', a18', a19', a20', a21', a22', a23', a24', a25', a26', a27'⟩ := u1
      refine qx_begins ok S1 (by omega) (by omega) (fun u2 S2 P2 => ?_)
      obtain ⟨cu'', ch'', en'', pe'', td'', rt'', lk'', a1'', a2'', a3'', a4'', a5'', a6'', a7'', a8'', a9'', a10'', a11'', a12'', a13'', a14'', a15'', a16'', a17'', a18'', a19'', a20'', a21'', a22'', a23'', a24'', a25'', a26'', a27''⟩ := u2
      have F2 : qf_R n sv ru ar vc vs vn cu'' a1'' a2'' a3'' a4'' a5'' a6'' := S2
      have nx := ih (j + 1)
      have key : ∀ nd, (nd = 0 ∨ (j < vc c ∧ nd = vn (4 * c + j))) → wL_customer_59 post (wL_customer_9 post (nI c) needs (nI e) (f + 1)) (nI c) needs (nI e) (nI (qi_x ar vn (qm_sim n sv ru ar vc vs vn).2.2.2.1 c (min j (vc c)))) 1 (nI j) (qa_jn n vc (qm_sim n sv ru ar vc vs vn) c j) (qa_bg n vc (qm_sim n sv ru ar vc vs vn) c j) (nI nd) cu'' ch'' en'' pe'' td'' rt'' lk'' a1'' a2'' a3'' a4'' a5'' a6'' a7'' a8'' a9'' a10'' a11'' a12'' a13'' a14'' a15'' a16'' a17'' a18'' a19'' a20'' a21'' a22'' a23'' a24'' a25'' a26'' a27'' := by
        intro nd hnd'
        by_cases z : j < vc c
        · have hP := P1 hc z
          have ejn : qa_jn n vc (qm_sim n sv ru ar vc vs vn) c j = nI (qi_x ar vn (qm_sim n sv ru ar vc vs vn).2.2.2.1 c j) := by
            revert hP
            generalize qm_sim n sv ru ar vc vs vn = m
            intro hP
            obtain ⟨vo, st, jn, bg, lv, k, lt, ls, la, lw⟩ := m
            show (if c < n ∧ j < vc c then nI (jn (4 * c + j)) else -1) = nI (qi_x ar vn bg c j)
            rw [if_pos ⟨hc, z⟩, (hP.2.2.1 c j hc z).1]
          have ebg : qa_bg n vc (qm_sim n sv ru ar vc vs vn) c j = nI ((qm_sim n sv ru ar vc vs vn).2.2.2.1 (4 * c + j)) := by
            generalize qm_sim n sv ru ar vc vs vn = m
            obtain ⟨vo, st, jn, bg, lv, k, lt, ls, la, lw⟩ := m
            exact if_pos ⟨hc, z⟩
          have hbd : qi_x ar vn (qm_sim n sv ru ar vc vs vn).2.2.2.1 c j ≤ (qm_sim n sv ru ar vc vs vn).2.2.2.1 (4 * c + j) ∧ (qm_sim n sv ru ar vc vs vn).2.2.2.1 (4 * c + j) ≤ 4420 := by
            revert hP
            generalize qm_sim n sv ru ar vc vs vn = m
            intro hP
            obtain ⟨vo, st, jn, bg, lv, k, lt, ls, la, lw⟩ := m
            have := hP.2.2.1 c j hc z
            rw [this.1] at this
            exact ⟨this.2.1, this.2.2⟩
          have elv : qa_lv n (qm_sim n sv ru ar vc vs vn) c = nI (qi_x ar vn (qm_sim n sv ru ar vc vs vn).2.2.2.1 c (vc c)) := by
            revert hP
            generalize qm_sim n sv ru ar vc vs vn = m
            intro hP
            obtain ⟨vo, st, jn, bg, lv, k, lt, ls, la, lw⟩ := m
            show (if c < n then nI (lv c) else -1) = _
            rw [if_pos hc, (hP.2.1 c hc).2.2.1]
          have ej2 : qa_jn n vc (qm_sim n sv ru ar vc vs vn) c (j + 1) = if j + 1 < vc c then nI (qi_x ar vn (qm_sim n sv ru ar vc vs vn).2.2.2.1 c (j + 1)) else -1 := by
            revert hP
            generalize qm_sim n sv ru ar vc vs vn = m
            intro hP
            obtain ⟨vo, st, jn, bg, lv, k, lt, ls, la, lw⟩ := m
            show (if c < n ∧ j + 1 < vc c then nI (jn (4 * c + (j + 1))) else -1) = _
            by_cases w : j + 1 < vc c
            · rw [if_pos ⟨hc, w⟩, if_pos w, (hP.2.2.1 c (j + 1) hc w).1]
            · rw [if_neg (fun v => w v.2), if_neg w]
          have hxb : j + 1 < vc c → qi_x ar vn (qm_sim n sv ru ar vc vs vn).2.2.2.1 c (j + 1) ≤ 4420 := by
            intro w
            revert hP
            generalize qm_sim n sv ru ar vc vs vn = m
            intro hP
            obtain ⟨vo, st, jn, bg, lv, k, lt, ls, la, lw⟩ := m
            have := hP.2.2.1 c (j + 1) hc w
            rw [this.1] at this
            show qi_x ar vn bg c (j + 1) ≤ 4420
            omega
          have hx1 : qi_x ar vn (qm_sim n sv ru ar vc vs vn).2.2.2.1 c (j + 1) = (qm_sim n sv ru ar vc vs vn).2.2.2.1 (4 * c + j) + vn (4 * c + j) := by
            unfold qi_x
            rw [if_neg (by omega), show 4 * c + (j + 1) - 1 = 4 * c + j by omega]
          rw [ejn, ebg, show min j (vc c) = j by omega]
          rw [show min (j + 1) (vc c) = j + 1 by omega] at nx
          refine br_f (by decide) (br_t (nI_pos' (by omega)) (br_t rfl (pk_lt ((qm_sim n sv ru ar vc vs vn).2.2.2.1 (4 * c + j)) (qi_x ar vn (qm_sim n sv ru ar vc vs vn).2.2.2.1 c j) (fun y => absurd y (by omega)) (fun y => ?_))))
          refine br_t (nI_pos' (by omega)) ?_
          rcases hnd' with w | ⟨_, w⟩
          · rw [w]
            refine br_t (Int32.le_refl _) ?_
            rw [nI_1]
            refine qx_joins (j := j + 1) ok F2 (by omega) (by omega) (fun u3 S3 P3 => ?_)
            obtain ⟨cu''', ch''', en''', pe''', td''', rt''', lk''', a1''', a2''', a3''', a4''', a5''', a6''', a7''', a8''', a9''', a10''', a11''', a12''', a13''', a14''', a15''', a16''', a17''', a18''', a19''', a20''', a21''', a22''', a23''', a24''', a25''', a26''', a27'''⟩ := u3
            rw [ej2]
            by_cases v : j + 1 < vc c
            · have hb := hxb v
              rw [if_pos v]
              refine br_f (nI_pos (by omega)) ?_
              refine qx_joins (j := j + 1) ok S3 (by omega) (by omega) (fun u4 S4 P4 => ?_)
              obtain ⟨cu'''', ch'''', en'''', pe'''', td'''', rt'''', lk'''', a1'''', a2'''', a3'''', a4'''', a5'''', a6'''', a7'''', a8'''', a9'''', a10'''', a11'''', a12'''', a13'''', a14'''', a15'''', a16'''', a17'''', a18'''', a19'''', a20'''', a21'''', a22'''', a23'''', a24'''', a25'''', a26'''', a27''''⟩ := u4
              rw [ej2, if_pos v]
              exact nm_e (nx _ _ _ _ _ _ _ _ _ _ _ _ _ _ _ _ _ _ _ _ _ _ _ _ _ _ _ _ _ _ _ _ _ _ (by omega) S4)
            · rw [if_neg v]
              refine br_t qn_m1 ?_
              refine qx_leaves ok S3 he (by omega) (fun u4 S4 P4 => ?_)
              obtain ⟨cu'''', ch'''', en'''', pe'''', td'''', rt'''', lk'''', a1'''', a2'''', a3'''', a4'''', a5'''', a6'''', a7'''', a8'''', a9'''', a10'''', a11'''', a12'''', a13'''', a14'''', a15'''', a16'''', a17'''', a18'''', a19'''', a20'''', a21'''', a22'''', a23'''', a24'''', a25'''', a26'''', a27''''⟩ := u4
              rw [elv, show vc c = j + 1 by omega]
              exact nm_e (nx _ _ _ _ _ _ _ _ _ _ _ _ _ _ _ _ _ _ _ _ _ _ _ _ _ _ _ _ _ _ _ _ _ _ (by omega) S4)
          · have hvn := ok.2.2.2 c j hc z
            refine br_f (nI_nle (by omega) (by omega)) (nm_r (e' := nI (qi_x ar vn (qm_sim n sv ru ar vc vs vn).2.2.2.1 c (j + 1))) ?_ (nm_r (nI_1 j) (nx _ _ _ _ _ _ _ _ _ _ _ _ _ _ _ _ _ _ _ _ _ _ _ _ _ _ _ _ _ _ _ _ _ _ (by omega) F2)))
            rw [w, nI_add, hx1]
        · have ejn : qa_jn n vc (qm_sim n sv ru ar vc vs vn) c j = -1 := by
            generalize qm_sim n sv ru ar vc vs vn = m
            obtain ⟨vo, st, jn, bg, lv, k, lt, ls, la, lw⟩ := m
            exact if_neg (fun v => z v.2)
          have ebg : qa_bg n vc (qm_sim n sv ru ar vc vs vn) c j = -1 := by
            generalize qm_sim n sv ru ar vc vs vn = m
            obtain ⟨vo, st, jn, bg, lv, k, lt, ls, la, lw⟩ := m
            exact if_neg (fun v => z v.2)
          rw [ejn, ebg]
          rw [show min (j + 1) (vc c) = min j (vc c) by omega] at nx
          refine br_f (by decide) (br_f qn_m1' (br_t rfl (br_f qn_m1' (nm_r (nI_1 j) ?_))))
          exact nx _ _ _ _ _ _ _ _ _ _ _ _ _ _ _ _ _ _ _ _ _ _ _ _ _ _ _ _ _ _ _ _ _ _ (by omega) F2
      refine pk_le 2 j (fun z => key 0 (Or.inl rfl)) (fun z => ?_)
      refine pk_le 6 c (fun y => key 0 (Or.inl rfl)) (fun y => ?_)
      show wL_customer_59 _ _ _ _ _ _ _ _ _ _ (((needs >>> ((5 * (2 * nI c + nI j)).toInt64 &&& 63)).toInt32) &&& 31) _ _ _ _ _ _ _ _ _ _ _ _ _ _ _ _ _ _ _ _ _ _ _ _ _ _ _ _ _ _ _ _ _ _
      rw [hnd j z y]
      refine key _ ?_
      by_cases w : j < vc c
      · rw [if_pos w]; exact Or.inr ⟨w, rfl⟩
      · rw [if_neg w]; exact Or.inl rfl
  have h0 := main 4 0 cu ch en pe td rt lk a1 a2 a3 a4 a5 a6 a7 a8 a9 a10 a11 a12 a13 a14 a15 a16 a17 a18 a19 a20 a21 a22 a23 a24 a25 a26 a27 (by omega) F0
  rw [show min 0 (vc c) = 0 by omega] at h0
  exact Exists.intro 5 h0
theorem qk_stat {post : Int32 → St1 → Prop} {u : St1} {s t : Nat} (ok : qf_ok n sv ru ar vc vs vn) (S : qf_S n sv ru ar vc vs vn u) (hs : s < 4) (ht : t ≤ 63)
    (H : ∀ u', qf_S n sv ru ar vc vs vn u' → post 1 u') : wpL_station post u (nI s) (nI (sv s)) (nI t) := by
  obtain ⟨cu, ch, en, pe, td, rt, lk, a1, a2, a3, a4, a5, a6, a7, a8, a9, a10, a11, a12, a13, a14, a15, a16, a17, a18, a19, a20, a21, a22, a23, a24, a25, a26, a27⟩ := u
  have hsv := ok.2.1 s hs
  unfold wpL_station
  refine qx_at ok S hs (by omega) (fun u1 S1 hP => ?_)
  obtain ⟨cu', ch', en', pe', td', rt', lk', a1', a2', a3', a4', a5', a6', a7', a8', a9', a10', a11', a12', a13', a14', a15', a16', a17', a18', a19', a20', a21', a22', a23', a24', a25', a26', a27'⟩ := u1
  obtain ⟨w1, w2, w3, w4, w5, w6, w7⟩ := qp_A (s := s) hP hs t
  have hla := qp_last hP
  have z1 := qp_zero hP hs (t := qa_la n (qm_sim n sv ru ar vc vs vn)) (Nat.le_refl _)
  have z2 := qp_zero hP hs (t := qa_la n (qm_sim n sv ru ar vc vs vn) + t) (by omega)
  have hst := qp_stay hP hs
  obtain ⟨b1, b2, b3⟩ := qp_busy hP hs
  have hsb := qp_sbd (s := s) ok hP
  have htk := qp_tick (m := qm_sim n sv ru ar vc vs vn) (s := s) t
  refine qx_waits ok S1 hs (by omega) (fun u2 S2 _ => ?_)
  obtain ⟨cu'', ch'', en'', pe'', td'', rt'', lk'', a1'', a2'', a3'', a4'', a5'', a6'', a7'', a8'', a9'', a10'', a11'', a12'', a13'', a14'', a15'', a16'', a17'', a18'', a19'', a20'', a21'', a22'', a23'', a24'', a25'', a26'', a27''⟩ := u2
  refine qx_last ok S2 (fun u3 S3 _ => ?_)
  obtain ⟨cu''', ch''', en''', pe''', td''', rt''', lk''', a1''', a2''', a3''', a4''', a5''', a6''', a7''', a8''', a9''', a10''', a11''', a12''', a13''', a14''', a15''', a16''', a17''', a18''', a19''', a20''', a21''', a22''', a23''', a24''', a25''', a26''', a27'''⟩ := u3
  have tail : wL_station_69 post (nI s) (nI t) (qn_I (qa_at (qm_sim n sv ru ar vc vs vn) s t)) (qn_I (qa_wt (qm_sim n sv ru ar vc vs vn) s t)) (nI (qa_la n (qm_sim n sv ru ar vc vs vn))) cu''' ch''' en''' pe''' td''' rt''' lk''' a1''' a2''' a3''' a4''' a5''' a6''' a7''' a8''' a9''' a10''' a11''' a12''' a13''' a14''' a15''' a16''' a17''' a18''' a19''' a20''' a21''' a22''' a23''' a24''' a25''' a26''' a27''' := by
    unfold wL_station_69
    refine qx_longest ok S3 hs (fun u4 S4 _ => ?_)
    obtain ⟨cu'''', ch'''', en'''', pe'''', td'''', rt'''', lk'''', a1'''', a2'''', a3'''', a4'''', a5'''', a6'''', a7'''', a8'''', a9'''', a10'''', a11'''', a12'''', a13'''', a14'''', a15'''', a16'''', a17'''', a18'''', a19'''', a20'''', a21'''', a22'''', a23'''', a24'''', a25'''', a26'''', a27''''⟩ := u4
    refine br_f (fun w => ?_) ?_
    · have := (qn_Ilt (by omega) (by omega) (by omega) (by omega)).mp w
      omega
    refine qx_area ok S4 hs (by omega) (fun u5 S5 _ => ?_)
    obtain ⟨cu, ch, en, pe, td, rt, lk, a1, a2, a3, a4, a5, a6, a7, a8, a9, a10, a11, a12, a13, a14, a15, a16, a17, a18, a19, a20, a21, a22, a23, a24, a25, a26, a27⟩ := u5
    refine qx_stays ok S5 hs (fun u6 S6 _ => ?_)
    obtain ⟨cu, ch, en, pe, td, rt, lk, a1, a2, a3, a4, a5, a6, a7, a8, a9, a10, a11, a12, a13, a14, a15, a16, a17, a18, a19, a20, a21, a22, a23, a24, a25, a26, a27⟩ := u6
    refine br_t (by rw [hst]) ?_
    refine qx_at ok S6 hs (by omega) (fun u7 S7 _ => ?_)
    obtain ⟨cu, ch, en, pe, td, rt, lk, a1, a2, a3, a4, a5, a6, a7, a8, a9, a10, a11, a12, a13, a14, a15, a16, a17, a18, a19, a20, a21, a22, a23, a24, a25, a26, a27⟩ := u7
    refine br_t (by rw [z1]; rfl) ?_
    rw [nI_add]
    refine qx_at ok S7 hs (by omega) (fun u8 S8 _ => ?_)
    obtain ⟨cu, ch, en, pe, td, rt, lk, a1, a2, a3, a4, a5, a6, a7, a8, a9, a10, a11, a12, a13, a14, a15, a16, a17, a18, a19, a20, a21, a22, a23, a24, a25, a26, a27⟩ := u8
    refine br_t (by rw [z2]; rfl) ?_
    refine qx_busy ok S8 hs (fun u9 S9 _ => ?_)
    obtain ⟨cu, ch, en, pe, td, rt, lk, a1, a2, a3, a4, a5, a6, a7, a8, a9, a10, a11, a12, a13, a14, a15, a16, a17, a18, a19, a20, a21, a22, a23, a24, a25, a26, a27⟩ := u9
    refine br_f (fun w => ?_) ?_
    · rw [← qn_In] at w
      have := (qn_Ilt (by omega) (by omega) (by omega) (by omega)).mp w
      omega
    refine qx_busy ok S9 hs (fun u10 S10 _ => ?_)
    obtain ⟨cu, ch, en, pe, td, rt, lk, a1, a2, a3, a4, a5, a6, a7, a8, a9, a10, a11, a12, a13, a14, a15, a16, a17, a18, a19, a20, a21, a22, a23, a24, a25, a26, a27⟩ := u10
    refine qx_stays ok S10 hs (fun u11 S11 _ => ?_)
    obtain ⟨cu, ch, en, pe, td, rt, lk, a1, a2, a3, a4, a5, a6, a7, a8, a9, a10, a11, a12, a13, a14, a15, a16, a17, a18, a19, a20, a21, a22, a23, a24, a25, a26, a27⟩ := u11
    refine br_f (fun w => ?_) ?_
    · have := (qn_Ilt (by omega) (by omega) (by omega) (by omega)).mp w
      omega
    rw [nI_1]
    refine qx_area ok S11 hs (by omega) (fun u12 S12 _ => ?_)
    obtain ⟨cu, ch, en, pe, td, rt, lk, a1, a2, a3, a4, a5, a6, a7, a8, a9, a10, a11, a12, a13, a14, a15, a16, a17, a18, a19, a20, a21, a22, a23, a24, a25, a26, a27⟩ := u12
    refine qx_area ok S12 hs (by omega) (fun u13 S13 _ => ?_)
    obtain ⟨cu, ch, en, pe, td, rt, lk, a1, a2, a3, a4, a5, a6, a7, a8, a9, a10, a11, a12, a13, a14, a15, a16, a17, a18, a19, a20, a21, a22, a23, a24, a25, a26, a27⟩ := u13
    exact br_t (by rw [htk, qn_Ia]) (H _ S13)
  have body : ∀ z0 : Int32, (z0 = 0 → qa_wt (qm_sim n sv ru ar vc vs vn) s t = 0) → wL_station_36 post (nI s) (nI (sv s)) (nI t) (qn_I (qa_at (qm_sim n sv ru ar vc vs vn) s t)) (qn_I (qa_wt (qm_sim n sv ru ar vc vs vn) s t)) (nI (qa_la n (qm_sim n sv ru ar vc vs vn))) z0 cu''' ch''' en''' pe''' td''' rt''' lk''' a1''' a2''' a3''' a4''' a5''' a6''' a7''' a8''' a9''' a10''' a11''' a12''' a13''' a14''' a15''' a16''' a17''' a18''' a19''' a20''' a21''' a22''' a23''' a24''' a25''' a26''' a27''' := by
    intro z0 hz0
    refine br_f (fun w => ?_) (br_f (fun w => ?_) (br_f (fun w => ?_) (br_c (fun w => br_t ?_ tail) (fun w => tail))))
    · have := (qn_Ilt (by omega) (by omega) (by omega) (by omega)).mp w
      omega
    · have := (qn_Ilt (b := 0) (by omega) (by omega) (by omega) (by omega)).mp w
      omega
    · rw [← qn_In, qn_Is] at w
      have := (qn_Ilt (by omega) (by omega) (by omega) (by omega)).mp w
      omega
    · rw [hz0 w]; rfl
  refine br_c (fun w => body 1 (fun y => absurd y (by decide))) (fun w => body 0 (fun _ => ?_))
  rcases w5 with y | y
  · exfalso
    apply w
    rw [qn_Is, y, qn_In]
  · exact y
theorem qk_ord {post : Int32 → St1 → Prop} {u : St1} (ok : qf_ok n sv ru ar vc vs vn) (S : qf_S n sv ru ar vc vs vn u) (H : ∀ u', qf_S n sv ru ar vc vs vn u' → post 1 u') : wpL_order post u (nI n) := by
  obtain ⟨cu, ch, en, pe, td, rt, lk, a1, a2, a3, a4, a5, a6, a7, a8, a9, a10, a11, a12, a13, a14, a15, a16, a17, a18, a19, a20, a21, a22, a23, a24, a25, a26, a27⟩ := u
  have F0 : qf_R n sv ru ar vc vs vn cu a1 a2 a3 a4 a5 a6 := S
  have hn := ok.1
  have main : ∀ (f k : Nat) (x2 x3 x4 : Int32) (cu ch en pe td rt lk : Int32) (a1 a2 a3 a4 a5 a6 a7 a8 a9 a10 a11 a12 a13 a14 a15 a16 a17 a18 a19 a20 a21 a22 a23 a24 a25 a26 a27 : Nat → Int32), k + f = n → qf_R n sv ru ar vc vs vn cu a1 a2 a3 a4 a5 a6 → (∀ i, i < 32 → qz_t x2 i = decide (i < n ∧ qo_e (qm_sim n sv ru ar vc vs vn).2.2.2.2.1 i n < k)) → ((k = 0 ∧ x3 = -1 ∧ x4 = -1) ∨ (∃ c, c < n ∧ qo_e (qm_sim n sv ru ar vc vs vn).2.2.2.2.1 c n + 1 = k ∧ x3 = nI ((qm_sim n sv ru ar vc vs vn).2.2.2.2.1 c) ∧ x4 = nI c)) → wL_order_10 post (nI n) (f + 1) x2 x3 x4 (nI k) cu ch en pe td rt lk a1 a2 a3 a4 a5 a6 a7 a8 a9 a10 a11 a12 a13 a14 a15 a16 a17 a18 a19 a20 a21 a22 a23 a24 a25 a26 a27 := by
    intro f
    induction f with
    | zero =>
      intro k x2 x3 x4 cu ch en pe td rt lk a1 a2 a3 a4 a5 a6 a7 a8 a9 a10 a11 a12 a13 a14 a15 a16 a17 a18 a19 a20 a21 a22 a23 a24 a25 a26 a27 hk F hb hx
      have hkn : k = n := by omega
      subst hkn
      refine br_t (Int32.le_refl _) (qx_order' ok F (Nat.le_refl _) (by omega) (fun u1 S1 => ?_))
      obtain ⟨cu', ch', en', pe', td', rt', lk', a1', a2', a3', a4', a5', a6', a7', a8', a9', a10', a11', a12', a13', a14', a15', a16', a17', a18', a19', a20', a21', a22', a23', a24', a25', a26', a27'⟩ := u1
      refine br_t rfl (qx_last ok S1 (fun u2 S2 hP => ?_))
      obtain ⟨cu'', ch'', en'', pe'', td'', rt'', lk'', a1'', a2'', a3'', a4'', a5'', a6'', a7'', a8'', a9'', a10'', a11'', a12'', a13'', a14'', a15'', a16'', a17'', a18'', a19'', a20'', a21'', a22'', a23'', a24'', a25'', a26'', a27''⟩ := u2
      refine pk_le k 0 (fun z => ?_) (fun z => ?_)
      · have hk0 : k = 0 := by omega
        refine br_t ?_ (H _ S2)
        have : qa_la k (qm_sim k sv ru ar vc vs vn) = 0 := by
          generalize qm_sim k sv ru ar vc vs vn = m
          obtain ⟨vo, st, jn, bg, lv, q, lt, ls, la, lw⟩ := m
          show qo_l lv k = 0
          rw [hk0]; rfl
        rw [this]; rfl
      · rcases hx with ⟨y, _⟩ | ⟨c, hc, hce, hx3, _⟩
        · omega
        · refine br_t ?_ (H _ S2)
          rw [hx3]
          congr 1
          revert hce
          generalize qm_sim k sv ru ar vc vs vn = m
          obtain ⟨vo, st, jn, bg, lv, q, lt, ls, la, lw⟩ := m
          intro hce
          exact qp_max hc hce
    | succ f ih =>
      intro k x2 x3 x4 cu ch en pe td rt lk a1 a2 a3 a4 a5 a6 a7 a8 a9 a10 a11 a12 a13 a14 a15 a16 a17 a18 a19 a20 a21 a22 a23 a24 a25 a26 a27 hk F hb hx
      refine br_f (nI_ge (by omega) (by omega)) (qx_order (q := k) ok F (by omega) (qp_sur (by omega)) (fun u1 c S1 hP hc hce => ?_))
      obtain ⟨cu', ch', en', pe', td', rt', lk', a1', a2', a3', a4', a5', a6', a7', a8', a9', a10', a11', a12', a13', a14', a15', a16', a17', a18', a19', a20', a21', a22', a23', a24', a25', a26', a27'⟩ := u1
      refine br_t (nI_pos' (by omega)) ?_
      refine qx_leaves (e := 0) ok S1 (by omega) (by omega) (fun u2 S2 _ => ?_)
      obtain ⟨cu'', ch'', en'', pe'', td'', rt'', lk'', a1'', a2'', a3'', a4'', a5'', a6'', a7'', a8'', a9'', a10'', a11'', a12'', a13'', a14'', a15'', a16'', a17'', a18'', a19'', a20'', a21'', a22'', a23'', a24'', a25'', a26'', a27''⟩ := u2
      have elv : qa_lv n (qm_sim n sv ru ar vc vs vn) c = nI ((qm_sim n sv ru ar vc vs vn).2.2.2.2.1 c) := by
        generalize qm_sim n sv ru ar vc vs vn = m
        obtain ⟨vo, st, jn, bg, lv, q, lt, ls, la, lw⟩ := m
        exact if_pos hc
      have hbd : ∀ d, d < n → (qm_sim n sv ru ar vc vs vn).2.2.2.2.1 d ≤ 4420 := by
        intro d hd
        revert hP
        generalize qm_sim n sv ru ar vc vs vn = m
        intro hP
        obtain ⟨vo, st, jn, bg, lv, q, lt, ls, la, lw⟩ := m
        exact (hP.2.1 d hd).2.2.2
      rw [elv]
      have hnx := ih (k + 1) (x2 ||| ((1 : Int32) <<< (nI c &&& 31))) (nI ((qm_sim n sv ru ar vc vs vn).2.2.2.2.1 c)) (nI c) cu'' ch'' en'' pe'' td'' rt'' lk'' a1'' a2'' a3'' a4'' a5'' a6'' a7'' a8'' a9'' a10'' a11'' a12'' a13'' a14'' a15'' a16'' a17'' a18'' a19'' a20'' a21'' a22'' a23'' a24'' a25'' a26'' a27'' (by omega) S2 (fun i hi => ?_) (Or.inr ⟨c, hc, by omega, rfl, rfl⟩)
      · have fin : wL_order_84 post (wL_order_10 post (nI n) (f + 1)) (nI n) x2 (nI k) (nI c) (nI ((qm_sim n sv ru ar vc vs vn).2.2.2.2.1 c)) cu'' ch'' en'' pe'' td'' rt'' lk'' a1'' a2'' a3'' a4'' a5'' a6'' a7'' a8'' a9'' a10'' a11'' a12'' a13'' a14'' a15'' a16'' a17'' a18'' a19'' a20'' a21'' a22'' a23'' a24'' a25'' a26'' a27'' := nm_e (nm_r (nI_1 k) hnx)
        have hbit : ¬ ((x2 >>> (nI c &&& 31)) &&& 1) = 1 := by
          have hz : ((x2 >>> (nI c &&& 31)) &&& 1) = 0 := (qz_tst x2 (by omega)).mpr (by rw [hb c (by omega)]; exact decide_eq_false (fun w => by omega))
          rw [hz]; decide
        have hbc := hbd c hc
        refine br_f (nI_pos (by omega)) (br_f (nI_ge hc (by omega)) (br_f hbit ?_))
        rcases hx with ⟨y1, y2, y3⟩ | ⟨d, hd, hde, hx3, hx4⟩
        · rw [y2]
          refine br_f (fun w => ?_) (br_f (fun w => ?_) fin)
          · have h1 := Int32.lt_iff_toInt_lt.mp w
            rw [nI_toInt (by omega)] at h1
            have h2 : (-1 : Int32).toInt = -1 := by decide
            omega
          · have h1 := congrArg Int32.toInt w
            rw [nI_toInt (by omega)] at h1
            have h2 : (-1 : Int32).toInt = -1 := by decide
            omega
        · have hbd' := hbd d hd
          have hlex : (qm_sim n sv ru ar vc vs vn).2.2.2.2.1 d ≤ (qm_sim n sv ru ar vc vs vn).2.2.2.2.1 c ∧ ((qm_sim n sv ru ar vc vs vn).2.2.2.2.1 c = (qm_sim n sv ru ar vc vs vn).2.2.2.2.1 d → d ≤ c) := by
            constructor
            · rcases Nat.lt_or_ge ((qm_sim n sv ru ar vc vs vn).2.2.2.2.1 c) ((qm_sim n sv ru ar vc vs vn).2.2.2.2.1 d) with z | z
              · have := qp_lt (n := n) hc (Or.inl z); omega
              · exact z
            · intro he
              rcases Nat.lt_or_ge c d with z | z
              · have := qp_lt (n := n) hc (Or.inr ⟨he, z⟩); omega
              · exact z
          rw [hx3, hx4]
          refine pk_lt ((qm_sim n sv ru ar vc vs vn).2.2.2.2.1 c) ((qm_sim n sv ru ar vc vs vn).2.2.2.2.1 d) (fun w => absurd w (by omega)) (fun w => ?_)
          exact pk_eq ((qm_sim n sv ru ar vc vs vn).2.2.2.2.1 c) ((qm_sim n sv ru ar vc vs vn).2.2.2.2.1 d) (fun v => pk_le d c (fun _ => fin) (fun y => absurd (hlex.2 v) (by omega))) (fun v => fin)
      · rw [qz_or, hb i hi, qz_bit (by omega) hi]
        by_cases ei : i = c
        · rw [ei]
          simp [hc, hce]
        · rw [decide_eq_false ei, Bool.or_false]
          refine decide_eq_decide.mpr ⟨fun w => ⟨w.1, by omega⟩, fun w => ⟨w.1, ?_⟩⟩
          rcases Nat.lt_or_ge (qo_e (qm_sim n sv ru ar vc vs vn).2.2.2.2.1 i n) k with z | z
          · exact z
          · exact absurd (qp_inj (lv := (qm_sim n sv ru ar vc vs vn).2.2.2.2.1) w.1 hc (by omega)) ei
  refine Exists.intro (n + 1) (main n 0 0 (-1) (-1) cu ch en pe td rt lk a1 a2 a3 a4 a5 a6 a7 a8 a9 a10 a11 a12 a13 a14 a15 a16 a17 a18 a19 a20 a21 a22 a23 a24 a25 a26 a27 (by omega) F0 (fun i hi => ?_) (Or.inl ⟨rfl, rfl, rfl⟩))
  rw [qz_0, decide_eq_false (fun w => by omega)]
def qv_V (n : Nat) (vc vs vn : Nat → Nat) (m : qm_M) : Nat → Int64
  | 0 => (nI (qa_la n m)).toInt64
  | c + 1 => (((((((qv_V n vc vs vn m c * 31) + (qa_lv n m c).toInt64) + ((7 * qa_bg n vc m c 1).toInt64)) + ((5 * qa_jn n vc m c 0).toInt64)) * 31) + (qn_I (qa_sy n vc vs vn m (c % 4))).toInt64) + (qn_I (qa_by m (c % 4))).toInt64) + (qn_I (qa_lo m (c % 4))).toInt64
theorem qk_view {post : Int64 → St1 → Prop} {u : St1} (ok : qf_ok n sv ru ar vc vs vn) (S : qf_S n sv ru ar vc vs vn u) (H : ∀ u', qf_S n sv ru ar vc vs vn u' → post (qv_V n vc vs vn (qm_sim n sv ru ar vc vs vn) 12) u') : wpL_view post u := by
  obtain ⟨cu, ch, en, pe, td, rt, lk, a1, a2, a3, a4, a5, a6, a7, a8, a9, a10, a11, a12, a13, a14, a15, a16, a17, a18, a19, a20, a21, a22, a23, a24, a25, a26, a27⟩ := u
  have main : ∀ (f c : Nat) (cu ch en pe td rt lk : Int32) (a1 a2 a3 a4 a5 a6 a7 a8 a9 a10 a11 a12 a13 a14 a15 a16 a17 a18 a19 a20 a21 a22 a23 a24 a25 a26 a27 : Nat → Int32), c + f = 12 → qf_R n sv ru ar vc vs vn cu a1 a2 a3 a4 a5 a6 → wL_view_8 post (f + 1) (qv_V n vc vs vn (qm_sim n sv ru ar vc vs vn) c) (nI c) cu ch en pe td rt lk a1 a2 a3 a4 a5 a6 a7 a8 a9 a10 a11 a12 a13 a14 a15 a16 a17 a18 a19 a20 a21 a22 a23 a24 a25 a26 a27 := by
    intro f
    induction f with
    | zero =>
      intro c cu ch en pe td rt lk a1 a2 a3 a4 a5 a6 a7 a8 a9 a10 a11 a12 a13 a14 a15 a16 a17 a18 a19 a20 a21 a22 a23 a24 a25 a26 a27 hc F
      have hc12 : c = 12 := by omega
      subst hc12
      exact br_t (Int32.le_refl _) (H _ F)
    | succ f ih =>
      intro c cu ch en pe td rt lk a1 a2 a3 a4 a5 a6 a7 a8 a9 a10 a11 a12 a13 a14 a15 a16 a17 a18 a19 a20 a21 a22 a23 a24 a25 a26 a27 hc F
      have hand : nI c &&& 3 = nI (c % 4) := pk_andN (by omega) 2 (by decide)
      have hm : c % 4 < 4 := Nat.mod_lt _ (by decide)
      refine br_f (nI_ge (b := 12) (by omega) (by decide)) ?_
      refine qx_leaves (e := 1) ok F (by omega) (by omega) (fun u1 S1 _ => ?_)
      obtain ⟨cu', ch', en', pe', td', rt', lk', a1', a2', a3', a4', a5', a6', a7', a8', a9', a10', a11', a12', a13', a14', a15', a16', a17', a18', a19', a20', a21', a22', a23', a24', a25', a26', a27'⟩ := u1
      refine qx_begins (j := 1) ok S1 (by omega) (by omega) (fun u2 S2 _ => ?_)
      obtain ⟨cu'', ch'', en'', pe'', td'', rt'', lk'', a1'', a2'', a3'', a4'', a5'', a6'', a7'', a8'', a9'', a10'', a11'', a12'', a13'', a14'', a15'', a16'', a17'', a18'', a19'', a20'', a21'', a22'', a23'', a24'', a25'', a26'', a27''⟩ := u2
      refine qx_joins (j := 0) ok S2 (by omega) (by omega) (fun u3 S3 _ => nm_e ?_)
      obtain ⟨cu''', ch''', en''', pe''', td''', rt''', lk''', a1''', a2''', a3''', a4''', a5''', a6''', a7''', a8''', a9''', a10''', a11''', a12''', a13''', a14''', a15''', a16''', a17''', a18''', a19''', a20''', a21''', a22''', a23''', a24''', a25''', a26''', a27'''⟩ := u3
      rw [hand]
      refine qx_stays ok S3 hm (fun u4 S4 _ => ?_)
      obtain ⟨cu'''', ch'''', en'''', pe'''', td'''', rt'''', lk'''', a1'''', a2'''', a3'''', a4'''', a5'''', a6'''', a7'''', a8'''', a9'''', a10'''', a11'''', a12'''', a13'''', a14'''', a15'''', a16'''', a17'''', a18'''', a19'''', a20'''', a21'''', a22'''', a23'''', a24'''', a25'''', a26'''', a27''''⟩ := u4
      refine qx_busy ok S4 hm (fun u5 S5 _ => ?_)
      obtain ⟨cu, ch, en, pe, td, rt, lk, a1, a2, a3, a4, a5, a6, a7, a8, a9, a10, a11, a12, a13, a14, a15, a16, a17, a18, a19, a20, a21, a22, a23, a24, a25, a26, a27⟩ := u5
      refine qx_longest ok S5 hm (fun u6 S6 _ => ?_)
      obtain ⟨cu, ch, en, pe, td, rt, lk, a1, a2, a3, a4, a5, a6, a7, a8, a9, a10, a11, a12, a13, a14, a15, a16, a17, a18, a19, a20, a21, a22, a23, a24, a25, a26, a27⟩ := u6
      exact nm_e (nm_r (nI_1 c) (ih (c + 1) cu ch en pe td rt lk a1 a2 a3 a4 a5 a6 a7 a8 a9 a10 a11 a12 a13 a14 a15 a16 a17 a18 a19 a20 a21 a22 a23 a24 a25 a26 a27 (by omega) S6))
  unfold wpL_view
  refine qx_last ok S (fun u1 S1 _ => ?_)
  obtain ⟨cu', ch', en', pe', td', rt', lk', a1', a2', a3', a4', a5', a6', a7', a8', a9', a10', a11', a12', a13', a14', a15', a16', a17', a18', a19', a20', a21', a22', a23', a24', a25', a26', a27'⟩ := u1
  exact Exists.intro 13 (main 12 0 cu' ch' en' pe' td' rt' lk' a1' a2' a3' a4' a5' a6' a7' a8' a9' a10' a11' a12' a13' a14' a15' a16' a17' a18' a19' a20' a21' a22' a23' a24' a25' a26' a27' (by omega) S1)
end
end
section
section
variable {n : Nat} {sv ru ar vc vs vn : Nat → Nat}
theorem qf_cg {ar' vc' vs' vn' : Nat → Nat} {u : St1} (h1 : ∀ c, c < n → ar' c = ar c ∧ vc' c = vc c) (h2 : ∀ c j, c < n → j < vc c → vs' (4 * c + j) = vs (4 * c + j) ∧ vn' (4 * c + j) = vn (4 * c + j)) (S : qf_S n sv ru ar' vc' vs' vn' u) : qf_S n sv ru ar vc vs vn u := by
  obtain ⟨cu, ch, en, pe, td, rt, lk, a1, a2, a3, a4, a5, a6, a7, a8, a9, a10, a11, a12, a13, a14, a15, a16, a17, a18, a19, a20, a21, a22, a23, a24, a25, a26, a27⟩ := u
  obtain ⟨f1, f2, f3, f4⟩ := S
  refine ⟨f1, f2, fun c hc => ?_, fun c j hc hj => ?_⟩
  · rw [← (h1 c hc).1, ← (h1 c hc).2]; exact f3 c hc
  · rw [← (h2 c j hc hj).1, ← (h2 c j hc hj).2]
    exact f4 c j hc (by rw [(h1 c hc).2]; exact hj)
theorem qk_arrive {post : Int32 → St1 → Prop} {u : St1} {x : Nat} (ok : qf_ok n sv ru ar vc vs vn) (S : qf_S n sv ru ar vc vs vn u) (hx : x ≤ 100) (H0 : n = 12 → ∀ u', qf_S n sv ru ar vc vs vn u' → post (-2) u')
    (H : n < 12 → qf_ok (n + 1) sv ru (qn_u ar n x) (qn_u vc n 0) vs vn → ∀ u', qf_S (n + 1) sv ru (qn_u ar n x) (qn_u vc n 0) vs vn u' → post (nI n) u') : wpX_arrive post u (nI x) := by
  obtain ⟨cu, ch, en, pe, td, rt, lk, a1, a2, a3, a4, a5, a6, a7, a8, a9, a10, a11, a12, a13, a14, a15, a16, a17, a18, a19, a20, a21, a22, a23, a24, a25, a26, a27⟩ := u
  have F : qf_R n sv ru ar vc vs vn cu a1 a2 a3 a4 a5 a6 := S
  have hn := ok.1
  obtain ⟨f1, f2, f3, f4⟩ := F
  have hcl : (nI n).toNatClampNeg = n := qn_cl (by omega)
  subst f1
  refine br_f (nI_pos (by omega)) (br_t (nI_le (b := 100) hx (by decide)) ?_)
  refine pk_lt n 12 (fun z => ⟨pk_in n 12 z, nm_e ⟨pk_in n 12 z, nm_e (nm_r (nI_1 n) ?_)⟩⟩) (fun z => H0 (by omega) _ S)
  rw [hcl, nI_pred, qn_b x (by omega)]
  refine H z ⟨by omega, ok.2.1, fun c hc => ?_, fun c j hc hj => ?_⟩ _ ⟨rfl, f2, fun c hc => ?_, fun c j hc hj => ?_⟩
  · by_cases e : c = n
    · rw [e, qn_us, qn_us]; omega
    · rw [qn_un e, qn_un e]; exact ok.2.2.1 c (by omega)
  · by_cases e : c = n
    · rw [e, qn_us] at hj; omega
    · rw [qn_un e] at hj; exact ok.2.2.2 c j (by omega) hj
  · by_cases e : c = n
    · rw [e, pk_us, pk_us, qn_us, qn_us]; exact ⟨rfl, rfl⟩
    · rw [pk_un e, pk_un e, qn_un e, qn_un e]; exact f3 c (by omega)
  · by_cases e : c = n
    · rw [e, qn_us] at hj; omega
    · rw [qn_un e] at hj; exact f4 c j (by omega) hj
theorem qk_visit {post : Int32 → St1 → Prop} {u : St1} {c s d : Nat} (ok : qf_ok n sv ru ar vc vs vn) (S : qf_S n sv ru ar vc vs vn u) (hc : c < 1048576) (hs : s < 4) (hd1 : 1 ≤ d) (hd2 : d ≤ 30) (H3 : ¬ c < n → ∀ u', qf_S n sv ru ar vc vs vn u' → post (-1) u') (H2 : c < n → vc c = 4 → ∀ u', qf_S n sv ru ar vc vs vn u' → post (-2) u')
    (H1 : c < n → vc c < 4 → qf_ok n sv ru ar (qn_u vc c (vc c + 1)) (qn_u vs (4 * c + vc c) s) (qn_u vn (4 * c + vc c) d) → ∀ u', qf_S n sv ru ar (qn_u vc c (vc c + 1)) (qn_u vs (4 * c + vc c) s) (qn_u vn (4 * c + vc c) d) u' → post (nI (vc c + 1)) u') : wpX_visit post u (nI c) (nI s) (nI d) := by
  obtain ⟨cu, ch, en, pe, td, rt, lk, a1, a2, a3, a4, a5, a6, a7, a8, a9, a10, a11, a12, a13, a14, a15, a16, a17, a18, a19, a20, a21, a22, a23, a24, a25, a26, a27⟩ := u
  have F : qf_R n sv ru ar vc vs vn cu a1 a2 a3 a4 a5 a6 := S
  have hn := ok.1
  obtain ⟨f1, f2, f3, f4⟩ := F
  unfold wpX_visit
  refine qx_cu f1 hn hc (fun z => ?_) (fun z => br_t rfl (H3 z _ S))
  have hv4 := (ok.2.2.1 c z).2
  have hcl : (nI c).toNatClampNeg = c := qn_cl hc
  have v4 : a4 (nI c).toNatClampNeg = nI (vc c) := by rw [hcl]; exact (f3 c z).2
  refine br_f (by decide) (qx_st hs (br_f (by decide) (br_f (nI_nlt (b := 1) hd1 (by omega)) (br_t (nI_le (b := 30) hd2 (by decide)) ⟨pk_in c 12 (by omega), ?_⟩))))
  refine pk_lt (vc c) 4 (fun y => ?_) (fun y => H2 z (by omega) _ S) v4
  have hv : nI c * 4 + a4 (nI c).toNatClampNeg = nI (4 * c + vc c) := by rw [v4]; exact qn_t4
  have hvl : (nI (4 * c + vc c)).toNatClampNeg = 4 * c + vc c := qn_cl (by omega)
  have hb : (nI (vc c) + 1).toInt8.toInt32 = nI (vc c + 1) := by rw [nI_1]; exact qn_b _ (by omega)
  refine ⟨pk_in c 12 (by omega), nm_r hv ⟨pk_in (4 * c + vc c) 48 (by omega), nm_e ⟨pk_in (4 * c + vc c) 48 (by omega), nm_e ⟨pk_in c 12 (by omega), pk_in c 12 (by omega), nm_e ⟨pk_in c 12 (by omega), ?_⟩⟩⟩⟩⟩
  rw [v4, hvl, hcl, hb, qn_b s (by omega), qn_b d (by omega), pk_us]
  refine H1 z y ⟨hn, ok.2.1, fun e he => ?_, fun e j he hj => ?_⟩ _ ⟨f1, f2, fun e he => ?_, fun e j he hj => ?_⟩
  · by_cases ec : e = c
    · rw [ec, qn_us]; exact ⟨(ok.2.2.1 c z).1, by omega⟩
    · rw [qn_un ec]; exact ok.2.2.1 e he
  · have he4 := (ok.2.2.1 e he).2
    by_cases ec : e = c
    · rw [ec, qn_us] at hj
      rw [ec]
      by_cases ej : j = vc c
      · rw [ej, qn_us, qn_us]; exact ⟨hs, hd1, hd2⟩
      · rw [qn_un (by omega), qn_un (by omega)]; exact ok.2.2.2 c j z (by omega)
    · rw [qn_un ec] at hj
      rw [qn_un (by omega), qn_un (by omega)]; exact ok.2.2.2 e j he hj
  · by_cases ec : e = c
    · rw [ec, pk_us, qn_us]; exact ⟨(f3 c z).1, rfl⟩
    · rw [pk_un ec, qn_un ec]; exact f3 e he
  · have he4 := (ok.2.2.1 e he).2
    by_cases ec : e = c
    · rw [ec, qn_us] at hj
      rw [ec]
      by_cases ej : j = vc c
      · rw [ej, qn_us, qn_us, pk_us, pk_us]; exact ⟨rfl, rfl⟩
      · rw [qn_un (by omega), qn_un (by omega), pk_un (by omega), pk_un (by omega)]; exact f4 c j z (by omega)
    · rw [qn_un ec] at hj
      rw [qn_un (by omega), qn_un (by omega), pk_un (by omega), pk_un (by omega)]; exact f4 e j he hj
theorem qk_drop {post : Int32 → St1 → Prop} {u : St1} (ok : qf_ok n sv ru ar vc vs vn) (S : qf_S n sv ru ar vc vs vn u) (H0 : n = 0 → ∀ u', qf_S n sv ru ar vc vs vn u' → post (-1) u') (H : ∀ k, n = k + 1 → qf_ok k sv ru ar vc vs vn → ∀ u', qf_S k sv ru ar vc vs vn u' → post (nI k) u') : wpX_drop post u := by
  obtain ⟨cu, ch, en, pe, td, rt, lk, a1, a2, a3, a4, a5, a6, a7, a8, a9, a10, a11, a12, a13, a14, a15, a16, a17, a18, a19, a20, a21, a22, a23, a24, a25, a26, a27⟩ := u
  have F : qf_R n sv ru ar vc vs vn cu a1 a2 a3 a4 a5 a6 := S
  have hn := ok.1
  obtain ⟨f1, f2, f3, f4⟩ := F
  refine pk_eq n 0 (fun z => H0 z _ S) (fun z => ?_) f1
  obtain ⟨k, rfl⟩ : ∃ k, n = k + 1 := ⟨n - 1, by omega⟩
  refine nm_r (show cu - 1 = nI k by rw [f1, nI_pred]) (H k rfl ⟨by omega, ok.2.1, fun c hc => ok.2.2.1 c (by omega), fun c j hc hj => ok.2.2.2 c j (by omega) hj⟩ _ ⟨rfl, f2, fun c hc => f3 c (by omega), fun c j hc hj => f4 c j (by omega) hj⟩)
theorem qk_station {post : Int32 → St1 → Prop} {u : St1} {s d r : Nat} (ok : qf_ok n sv ru ar vc vs vn) (S : qf_S n sv ru ar vc vs vn u) (hs : s < 4) (hd1 : 1 ≤ d) (hd2 : d ≤ 3) (hr : r ≤ 2)
    (H : qf_ok n (qn_u sv s d) (qn_u ru s r) ar vc vs vn → ∀ u', qf_S n (qn_u sv s d) (qn_u ru s r) ar vc vs vn u' → post 1 u') : wpX_station post u (nI s) (nI d) (nI r) := by
  obtain ⟨cu, ch, en, pe, td, rt, lk, a1, a2, a3, a4, a5, a6, a7, a8, a9, a10, a11, a12, a13, a14, a15, a16, a17, a18, a19, a20, a21, a22, a23, a24, a25, a26, a27⟩ := u
  have F : qf_R n sv ru ar vc vs vn cu a1 a2 a3 a4 a5 a6 := S
  obtain ⟨f1, f2, f3, f4⟩ := F
  have hsl : (nI s).toNatClampNeg = s := qn_cl (by omega)
  unfold wpX_station
  refine qx_st hs (br_f (by decide) (br_f (nI_nlt (b := 1) hd1 (by omega)) (br_f (nI_nlt (a := 3) hd2 (by decide)) (br_f (nI_pos (by omega)) (br_t (nI_le (b := 2) hr (by decide)) ⟨pk_in s 4 hs, nm_e ⟨pk_in s 4 hs, nm_e ?_⟩⟩)))))
  rw [hsl, qn_b d (by omega), qn_b r (by omega)]
  refine H ⟨ok.1, fun e he => ?_, ok.2.2⟩ _ ⟨f1, fun e he => ?_, f3, f4⟩
  · by_cases es : e = s
    · rw [es, qn_us, qn_us]; exact ⟨hd1, hd2, hr⟩
    · rw [qn_un es, qn_un es]; exact ok.2.1 e he
  · by_cases es : e = s
    · rw [es, pk_us, pk_us, qn_us, qn_us]; exact ⟨rfl, rfl⟩
    · rw [pk_un es, pk_un es, qn_un es, qn_un es]; exact f2 e he
theorem qk_come {post : Int32 → St1 → Prop} {u : St1} {x : Int32} (ok : qf_ok n sv ru ar vc vs vn) (S : qf_S n sv ru ar vc vs vn u) (H : ∀ u', qf_S n sv ru ar vc vs vn u' → post 1 u') : wpL_comesAndGoes post u (nI n) x := by
  obtain ⟨cu, ch, en, pe, td, rt, lk, a1, a2, a3, a4, a5, a6, a7, a8, a9, a10, a11, a12, a13, a14, a15, a16, a17, a18, a19, a20, a21, a22, a23, a24, a25, a26, a27⟩ := u
  have hn := ok.1
  unfold wpL_comesAndGoes
  refine qk_view ok S (fun u1 S1 => ?_)
  obtain ⟨cu', ch', en', pe', td', rt', lk', a1', a2', a3', a4', a5', a6', a7', a8', a9', a10', a11', a12', a13', a14', a15', a16', a17', a18', a19', a20', a21', a22', a23', a24', a25', a26', a27'⟩ := u1
  obtain ⟨j0, hj0, ej0⟩ := pk_andE x (m := 63) 6 (by decide)
  obtain ⟨s1, hs1, es1⟩ := pk_andE (x >>> ((6 : Int32) &&& 31)) (m := 3) 2 (by decide)
  obtain ⟨d1, hd1, ed1⟩ := pk_andE (x >>> ((8 : Int32) &&& 31)) (m := 15) 4 (by decide)
  obtain ⟨s2, hs2, es2⟩ := pk_andE (x >>> ((7 : Int32) &&& 31)) (m := 3) 2 (by decide)
  obtain ⟨d2, hd2, ed2⟩ := pk_andE (x >>> ((9 : Int32) &&& 31)) (m := 15) 4 (by decide)
  have ed1' : 1 + ((x >>> ((8 : Int32) &&& 31)) &&& 15) = nI (1 + d1) := by rw [ed1, show (1 : Int32) = nI 1 from rfl, nI_add]
  have ed2' : 1 + ((x >>> ((9 : Int32) &&& 31)) &&& 15) = nI (1 + d2) := by rw [ed2, show (1 : Int32) = nI 1 from rfl, nI_add]
  rw [ej0]
  refine qk_arrive ok S1 (by omega) (fun z u2 S2 => ?_) (fun z ok2 u2 S2 => ?_)
  · obtain ⟨cu'', ch'', en'', pe'', td'', rt'', lk'', a1'', a2'', a3'', a4'', a5'', a6'', a7'', a8'', a9'', a10'', a11'', a12'', a13'', a14'', a15'', a16'', a17'', a18'', a19'', a20'', a21'', a22'', a23'', a24'', a25'', a26'', a27''⟩ := u2
    refine br_f (by decide) (br_t rfl (br_t ?_ (H _ S2)))
    rw [z]; rfl
  · obtain ⟨cu'', ch'', en'', pe'', td'', rt'', lk'', a1'', a2'', a3'', a4'', a5'', a6'', a7'', a8'', a9'', a10'', a11'', a12'', a13'', a14'', a15'', a16'', a17'', a18'', a19'', a20'', a21'', a22'', a23'', a24'', a25'', a26'', a27''⟩ := u2
    refine br_t (nI_pos' (by omega)) ?_
    rw [es1, ed1']
    refine qk_visit (c := n) ok2 S2 (by omega) (by omega) (by omega) (by omega) (fun y => absurd y (by omega)) (fun _ y => absurd y (by rw [qn_us]; omega)) (fun _ _ ok3 u3 S3 => ?_)
    obtain ⟨cu''', ch''', en''', pe''', td''', rt''', lk''', a1''', a2''', a3''', a4''', a5''', a6''', a7''', a8''', a9''', a10''', a11''', a12''', a13''', a14''', a15''', a16''', a17''', a18''', a19''', a20''', a21''', a22''', a23''', a24''', a25''', a26''', a27'''⟩ := u3
    rw [es2, ed2']
    refine qk_visit (c := n) ok3 S3 (by omega) (by omega) (by omega) (by omega) (fun y => absurd y (by omega)) (fun _ y => absurd y (by rw [qn_us, qn_us]; omega)) (fun _ _ ok4 u4 S4 => ?_)
    obtain ⟨cu'''', ch'''', en'''', pe'''', td'''', rt'''', lk'''', a1'''', a2'''', a3'''', a4'''', a5'''', a6'''', a7'''', a8'''', a9'''', a10'''', a11'''', a12'''', a13'''', a14'''', a15'''', a16'''', a17'''', a18'''', a19'''', a20'''', a21'''', a22'''', a23'''', a24'''', a25'''', a26'''', a27''''⟩ := u4
    refine qk_drop ok4 S4 (fun y => absurd y (by omega)) (fun k hk ok5 u5 S5 => ?_)
    have hkn : k = n := by omega
    subst hkn
    obtain ⟨cu, ch, en, pe, td, rt, lk, a1, a2, a3, a4, a5, a6, a7, a8, a9, a10, a11, a12, a13, a14, a15, a16, a17, a18, a19, a20, a21, a22, a23, a24, a25, a26, a27⟩ := u5
    refine br_t rfl (br_t (by rw [qn_us]; rfl) (br_t (by rw [qn_us, qn_us]; rfl) (br_t rfl ?_)))
    have S6 : qf_S k sv ru ar vc vs vn (cu, ch, en, pe, td, rt, lk, a1, a2, a3, a4, a5, a6, a7, a8, a9, a10, a11, a12, a13, a14, a15, a16, a17, a18, a19, a20, a21, a22, a23, a24, a25, a26, a27) := by
      refine qf_cg (fun c hc => ?_) (fun c j hc hj => ?_) S5
      · rw [qn_un (by omega), qn_un (by omega), qn_un (by omega), qn_un (by omega)]; exact ⟨rfl, rfl⟩
      · have h4 := (ok.2.2.1 c hc).2
        rw [qn_un (by omega), qn_un (by omega), qn_un (by omega), qn_un (by omega)]; exact ⟨rfl, rfl⟩
    refine qk_view ok S6 (fun u7 S7 => ?_)
    obtain ⟨cu, ch, en, pe, td, rt, lk, a1, a2, a3, a4, a5, a6, a7, a8, a9, a10, a11, a12, a13, a14, a15, a16, a17, a18, a19, a20, a21, a22, a23, a24, a25, a26, a27⟩ := u7
    exact br_t rfl (H _ S7)
end
end
section
/-- rows of five bits in a long -/
def qy_t (x : Int64) (i : Nat) : Bool := x.toBitVec.getLsbD i
theorem qy_or (x y : Int64) (i : Nat) : qy_t (x ||| y) i = (qy_t x i || qy_t y i) := by unfold qy_t; rw [Int64.toBitVec_or, BitVec.getLsbD_or]
theorem qy_and (x y : Int64) (i : Nat) : qy_t (x &&& y) i = (qy_t x i && qy_t y i) := by unfold qy_t; rw [Int64.toBitVec_and, BitVec.getLsbD_and]
theorem qy_xor (x y : Int64) (i : Nat) : qy_t (x ^^^ y) i = (qy_t x i ^^ qy_t y i) := by unfold qy_t; rw [Int64.toBitVec_xor, BitVec.getLsbD_xor]
theorem qy_m1 : ∀ i, i < 64 → qy_t (-1) i = true := by decide +kernel
theorem qy_0 (i : Nat) : qy_t 0 i = false := by unfold qy_t; simp
theorem qy_31 : ∀ i, i < 64 → qy_t 31 i = decide (i < 5) := by decide +kernel
theorem qy_1023 : ∀ i, i < 64 → qy_t 1023 i = decide (i < 10) := by decide +kernel
theorem qz_31 : ∀ i, i < 32 → qz_t 31 i = decide (i < 5) := by decide +kernel
theorem qz_3 : ∀ i, i < 32 → qz_t 3 i = decide (i < 2) := by decide +kernel
theorem qy_sl : ∀ k, k < 64 → (((nI k).toInt64 &&& 63).toBitVec.smod 64).toNat = k := by decide +kernel
theorem qy_shl (k : Nat) (hk : k < 64) (x : Int64) {i : Nat} (hi : i < 64) : qy_t (x <<< ((nI k).toInt64 &&& 63)) i = (decide (k ≤ i) && qy_t x (i - k)) := by
  unfold qy_t
  rw [Int64.toBitVec_shiftLeft]
  show (x.toBitVec <<< (((nI k).toInt64 &&& 63).toBitVec.smod 64).toNat).getLsbD i = _
  rw [qy_sl k hk, BitVec.getLsbD_shiftLeft]
  by_cases h : k ≤ i
  · simp [hi, h, Nat.not_lt.mpr h]
  · simp [hi, h, Nat.lt_of_not_le h]
theorem qy_shr (k : Nat) (hk : k < 64) (x : Int64) {i : Nat} (hi : k + i < 64) : qy_t (x >>> ((nI k).toInt64 &&& 63)) i = qy_t x (k + i) := by
  unfold qy_t
  rw [Int64.toBitVec_shiftRight]
  show (x.toBitVec.sshiftRight (((nI k).toInt64 &&& 63).toBitVec.smod 64).toNat).getLsbD i = _
  rw [qy_sl k hk, BitVec.getLsbD_sshiftRight]
  simp [hi, show i < 64 by omega]
theorem qy_32 (x : Int64) {i : Nat} (hi : i < 32) : qz_t x.toInt32 i = qy_t x i := by
  unfold qz_t qy_t
  rw [Int64.toBitVec_toInt32, BitVec.getLsbD_signExtend]
  simp [hi, show i < 64 by omega]
theorem qz_n {v i : Nat} (hi : i < 32) : qz_t (nI v) i = v.testBit i := by
  unfold qz_t
  show (BitVec.ofNat 32 v).getLsbD i = _
  rw [BitVec.getLsbD_ofNat]
  simp [hi]
theorem qy_n {v i : Nat} (hv : v < 2 ^ 31) (hi : i < 64) : qy_t (nI v).toInt64 i = v.testBit i := by
  rw [nI_l hv]
  unfold qy_t
  show (BitVec.ofNat 64 v).getLsbD i = _
  rw [BitVec.getLsbD_ofNat]
  simp [hi]
theorem qy_big {v i : Nat} (hv : v < 32) (hi : 5 ≤ i) : v.testBit i = false := Nat.testBit_lt_two_pow (Nat.lt_of_lt_of_le hv (Nat.pow_le_pow_right (n := 2) (by decide) hi))
def qg_g (row : Int64) (k : Nat) : Int32 := ((row >>> ((5 * nI k).toInt64 &&& 63)).toInt32) &&& 31
theorem qg_5 (k : Nat) : (5 : Int32) * nI k = nI (5 * k) := by rw [show (5 : Int32) = nI 5 from rfl, pk_mul]
theorem qg_10 (k : Nat) : (10 : Int32) * nI k = nI (10 * k) := by rw [show (10 : Int32) = nI 10 from rfl, pk_mul]
theorem qg_bit {row : Int64} {k i : Nat} (hk : k < 12) (hi : i < 32) : qz_t (qg_g row k) i = (decide (i < 5) && qy_t row (5 * k + i)) := by
  unfold qg_g
  rw [qz_and, qz_31 i hi, qy_32 _ hi, qg_5]
  by_cases h : i < 5
  · rw [qy_shr _ (by omega) _ (by omega), Bool.and_comm]
  · rw [decide_eq_false h, Bool.and_false, Bool.false_and]
def qg_w (row : Int64) (k : Nat) (v : Int32) : Int64 := (row &&& (((31 : Int64) <<< ((5 * nI k).toInt64 &&& 63)) ^^^ (-1))) ||| (v.toInt64 <<< ((5 * nI k).toInt64 &&& 63))
theorem qg_same {row : Int64} {k v : Nat} (hk : k < 12) (hv : v < 32) : qg_g (qg_w row k (nI v)) k = nI v := by
  refine qz_ext (fun i hi => ?_)
  rw [qg_bit hk hi, qz_n hi]
  by_cases h : i < 5
  · unfold qg_w
    rw [qg_5, qy_or, qy_and, qy_xor, qy_shl _ (by omega) _ (by omega), qy_shl _ (by omega) _ (by omega), qy_m1 _ (by omega), show 5 * k + i - 5 * k = i by omega, qy_31 i (by omega), qy_n (by omega) (by omega)]
    simp [h]
  · rw [decide_eq_false h, Bool.false_and, qy_big hv (by omega)]
theorem qg_else {row : Int64} {k k' v : Nat} (hk : k < 12) (hk' : k' < 12) (hv : v < 32) (hne : k' ≠ k) : qg_g (qg_w row k (nI v)) k' = qg_g row k' := by
  refine qz_ext (fun i hi => ?_)
  rw [qg_bit hk' hi, qg_bit hk' hi]
  by_cases h : i < 5
  · congr 1
    unfold qg_w
    rw [qg_5, qy_or, qy_and, qy_xor, qy_shl _ (by omega) _ (by omega), qy_shl _ (by omega) _ (by omega), qy_m1 _ (by omega)]
    by_cases h2 : 5 * k ≤ 5 * k' + i
    · rw [qy_31 _ (by omega), qy_n (by omega) (by omega), qy_big hv (by omega), decide_eq_false (show ¬ 5 * k' + i - 5 * k < 5 by omega)]
      simp
    · rw [decide_eq_false h2]
      simp
  · rw [decide_eq_false h, Bool.false_and, Bool.false_and]
theorem qg_clr {row : Int64} {m k : Nat} (hm : m < 6) (hk : k < 12) : qg_g (row &&& (((1023 : Int64) <<< ((10 * nI m).toInt64 &&& 63)) ^^^ (-1))) k = if k / 2 = m then 0 else qg_g row k := by
  refine qz_ext (fun i hi => ?_)
  rw [qg_bit hk hi]
  by_cases h : i < 5
  · rw [qg_10, qy_and, qy_xor, qy_shl _ (by omega) _ (by omega), qy_m1 _ (by omega)]
    by_cases e : k / 2 = m
    · rw [if_pos e, qz_0, decide_eq_true (show 10 * m ≤ 5 * k + i by omega), qy_1023 _ (by omega), decide_eq_true (show 5 * k + i - 10 * m < 10 by omega)]
      simp
    · rw [if_neg e, qg_bit hk hi]
      by_cases h2 : 10 * m ≤ 5 * k + i
      · rw [qy_1023 _ (by omega), decide_eq_false (show ¬ 5 * k + i - 10 * m < 10 by omega)]
        simp
      · rw [decide_eq_false h2]
        simp
  · rw [decide_eq_false h, Bool.false_and]
    by_cases e : k / 2 = m
    · rw [if_pos e, qz_0]
    · rw [if_neg e, qg_bit hk hi, decide_eq_false h, Bool.false_and]
theorem qg_0 {k : Nat} (hk : k < 12) : qg_g 0 k = nI 0 := by
  refine qz_ext (fun i hi => ?_)
  rw [qg_bit hk hi, qy_0, Bool.and_false, nI_0, qz_0]
/-- servers, two bits a station -/
def qg_s (row : Int32) (s : Nat) : Int32 := (row >>> ((2 * nI s) &&& 31)) &&& 3
theorem qg_2 (k : Nat) : (2 : Int32) * nI k = nI (2 * k) := by rw [show (2 : Int32) = nI 2 from rfl, pk_mul]
theorem qg_sb {row : Int32} {s i : Nat} (hs : s < 4) (hi : i < 32) : qz_t (qg_s row s) i = (decide (i < 2) && qz_t row (2 * s + i)) := by
  unfold qg_s
  rw [qz_and, qz_3 i hi, qg_2]
  by_cases h : i < 2
  · rw [qz_shr _ (by omega) _ hi, if_pos (by omega), Bool.and_comm]
  · rw [decide_eq_false h, Bool.and_false, Bool.false_and]
theorem qg_b3 {v i : Nat} (hv : v < 4) (hi : 2 ≤ i) : v.testBit i = false := Nat.testBit_lt_two_pow (Nat.lt_of_lt_of_le hv (Nat.pow_le_pow_right (n := 2) (by decide) hi))
theorem qg_sw {row : Int32} {s s' v : Nat} (hs : s < 4) (hs' : s' < 4) (hv : v < 4) : qg_s ((row &&& (((3 : Int32) <<< ((2 * nI s) &&& 31)) ^^^ (-1))) ||| (nI v <<< ((2 * nI s) &&& 31))) s' = if s' = s then nI v else qg_s row s' := by
  refine qz_ext (fun i hi => ?_)
  rw [qg_sb hs' hi]
  by_cases h : i < 2
  · rw [qg_2, qz_or, qz_and, qz_xor, qz_shl _ (by omega) _ (by omega), qz_shl _ (by omega) _ (by omega), qz_m1 _ (by omega)]
    by_cases e : s' = s
    · rw [if_pos e, qz_n hi, e, show 2 * s + i - 2 * s = i by omega, qz_3 i hi, qz_n hi]
      simp [h]
    · rw [if_neg e, qg_sb hs' hi]
      by_cases h2 : 2 * s ≤ 2 * s' + i
      · rw [qz_3 _ (by omega), qz_n (by omega), qg_b3 hv (by omega), decide_eq_false (show ¬ 2 * s' + i - 2 * s < 2 by omega)]
        simp
      · rw [decide_eq_false h2]
        simp
  · rw [decide_eq_false h, Bool.false_and]
    by_cases e : s' = s
    · rw [if_pos e, qz_n hi, qg_b3 hv (by omega)]
    · rw [if_neg e, qg_sb hs' hi, decide_eq_false h, Bool.false_and]
theorem qg_85 : ∀ s, s < 4 → qg_s 85 s = nI 1 := by decide +kernel
end
section
def qk_I (n : Nat) (sv ar vc vn : Nat → Nat) (needs times : Int64) (srv : Int32) : Prop :=
  (∀ s, s < 4 → qg_s srv s = nI (sv s)) ∧ (∀ c, c < n → ar c ≤ 31 ∧ qg_g times c = nI (ar c)) ∧ (∀ c j, c < 6 → j < 2 → qg_g needs (2 * c + j) = nI (if c < n ∧ j < vc c then vn (4 * c + j) else 0))
section
variable {post : Int32 → Prop} {L : Nat} {xs : Nat → Int32} {J : Int64 → Int64 → Int32 → Int32 → Int32 → Int32 → Int32 → Int32 → Int32 → Int32 → Int32 → Int32 → (Nat → Int32) → (Nat → Int32) → (Nat → Int32) → (Nat → Int32) → (Nat → Int32) → (Nat → Int32) → (Nat → Int32) → (Nat → Int32) → (Nat → Int32) → (Nat → Int32) → (Nat → Int32) → (Nat → Int32) → (Nat → Int32) → (Nat → Int32) → (Nat → Int32) → (Nat → Int32) → (Nat → Int32) → (Nat → Int32) → (Nat → Int32) → (Nat → Int32) → (Nat → Int32) → (Nat → Int32) → (Nat → Int32) → (Nat → Int32) → (Nat → Int32) → (Nat → Int32) → (Nat → Int32) → Prop} {x2 x4 : Int64} {x7 x8 x10 : Int32} {kc ks : Nat} {n : Nat} {sv ru ar vc vs vn : Nat → Nat}
theorem qk_379 {cu ch en pe td rt lk : Int32} {a1 a2 a3 a4 a5 a6 a7 a8 a9 a10 a11 a12 a13 a14 a15 a16 a17 a18 a19 a20 a21 a22 a23 a24 a25 a26 a27 : Nat → Int32} {s : Nat} (ok : qf_ok n sv ru ar vc vs vn) (F : qf_R n sv ru ar vc vs vn cu a1 a2 a3 a4 a5 a6) (K : qk_I n sv ar vc vn x2 x4 x7) (hs : s < 4) (HJ : ∀ (cu ch en pe td rt lk : Int32) (a1 a2 a3 a4 a5 a6 a7 a8 a9 a10 a11 a12 a13 a14 a15 a16 a17 a18 a19 a20 a21 a22 a23 a24 a25 a26 a27 : Nat → Int32), qf_R n sv ru ar vc vs vn cu a1 a2 a3 a4 a5 a6 → J x2 x4 (nI n) x7 (x8 + 1) cu ch en pe td rt lk a1 a2 a3 a4 a5 a6 a7 a8 a9 a10 a11 a12 a13 a14 a15 a16 a17 a18 a19 a20 a21 a22 a23 a24 a25 a26 a27) : wL_law_379 post L xs J x2 x4 (nI n) x7 x8 x10 (nI s) 1 kc ks cu ch en pe td rt lk a1 a2 a3 a4 a5 a6 a7 a8 a9 a10 a11 a12 a13 a14 a15 a16 a17 a18 a19 a20 a21 a22 a23 a24 a25 a26 a27 := by
  obtain ⟨t, ht, et⟩ := pk_andE (x10 >>> ((18 : Int32) &&& 31)) (m := 63) 6 (by decide)
  obtain ⟨e1, he1, ee1⟩ := pk_andE x10 (m := 3) 2 (by decide)
  obtain ⟨e2, he2, ee2⟩ := pk_andE (x10 >>> ((2 : Int32) &&& 31)) (m := 3) 2 (by decide)
  have hsv : (x7 >>> ((2 * nI s) &&& 31)) &&& 3 = nI (sv s) := K.1 s hs
  refine br_f (by decide) ?_
  rw [hsv, et]
  refine qk_stat ok F hs (by omega) (fun u1 S1 => ?_)
  obtain ⟨cu', ch', en', pe', td', rt', lk', a1', a2', a3', a4', a5', a6', a7', a8', a9', a10', a11', a12', a13', a14', a15', a16', a17', a18', a19', a20', a21', a22', a23', a24', a25', a26', a27'⟩ := u1
  refine br_f (by decide) (qk_ord ok S1 (fun u2 S2 => ?_))
  obtain ⟨cu'', ch'', en'', pe'', td'', rt'', lk'', a1'', a2'', a3'', a4'', a5'', a6'', a7'', a8'', a9'', a10'', a11'', a12'', a13'', a14'', a15'', a16'', a17'', a18'', a19'', a20'', a21'', a22'', a23'', a24'', a25'', a26'', a27''⟩ := u2
  refine br_f (by decide) (qk_come ok S2 (fun u3 S3 => ?_))
  obtain ⟨cu''', ch''', en''', pe''', td''', rt''', lk''', a1''', a2''', a3''', a4''', a5''', a6''', a7''', a8''', a9''', a10''', a11''', a12''', a13''', a14''', a15''', a16''', a17''', a18''', a19''', a20''', a21''', a22''', a23''', a24''', a25''', a26''', a27'''⟩ := u3
  refine br_f (by decide) ?_
  rw [ee1, ee2]
  refine qx_agree ok S3 (by omega) (by omega) (fun u4 S4 => ?_)
  obtain ⟨cu'''', ch'''', en'''', pe'''', td'''', rt'''', lk'''', a1'''', a2'''', a3'''', a4'''', a5'''', a6'''', a7'''', a8'''', a9'''', a10'''', a11'''', a12'''', a13'''', a14'''', a15'''', a16'''', a17'''', a18'''', a19'''', a20'''', a21'''', a22'''', a23'''', a24'''', a25'''', a26'''', a27''''⟩ := u4
  exact br_f (by decide) (nm_e (HJ _ _ _ _ _ _ _ _ _ _ _ _ _ _ _ _ _ _ _ _ _ _ _ _ _ _ _ _ _ _ _ _ _ _ S4))
theorem qk_343 {cu ch en pe td rt lk : Int32} {a1 a2 a3 a4 a5 a6 a7 a8 a9 a10 a11 a12 a13 a14 a15 a16 a17 a18 a19 a20 a21 a22 a23 a24 a25 a26 a27 : Nat → Int32} {s c : Nat} (ok : qf_ok n sv ru ar vc vs vn) (F : qf_R n sv ru ar vc vs vn cu a1 a2 a3 a4 a5 a6) (K : qk_I n sv ar vc vn x2 x4 x7) (hs : s < 4) (hc : n = 0 ∨ c < n) (HJ : ∀ (cu ch en pe td rt lk : Int32) (a1 a2 a3 a4 a5 a6 a7 a8 a9 a10 a11 a12 a13 a14 a15 a16 a17 a18 a19 a20 a21 a22 a23 a24 a25 a26 a27 : Nat → Int32), qf_R n sv ru ar vc vs vn cu a1 a2 a3 a4 a5 a6 → J x2 x4 (nI n) x7 (x8 + 1) cu ch en pe td rt lk a1 a2 a3 a4 a5 a6 a7 a8 a9 a10 a11 a12 a13 a14 a15 a16 a17 a18 a19 a20 a21 a22 a23 a24 a25 a26 a27) : wL_law_343 post L xs J x2 x4 (nI n) x7 x8 x10 (nI s) (nI c) kc ks cu ch en pe td rt lk a1 a2 a3 a4 a5 a6 a7 a8 a9 a10 a11 a12 a13 a14 a15 a16 a17 a18 a19 a20 a21 a22 a23 a24 a25 a26 a27 := by
  have hn := ok.1
  refine pk_eq n 0 (fun z => qk_379 ok F K hs HJ) (fun z => ?_)
  have hc' : c < n := by omega
  obtain ⟨e, he, ee⟩ := pk_andE (x10 >>> ((16 : Int32) &&& 31)) (m := 3) 2 (by decide)
  obtain ⟨k1, k2, k3⟩ := K
  have hg : ((x4 >>> ((5 * nI c).toInt64 &&& 63)).toInt32) &&& 31 = nI (ar c) := (k2 c hc').2
  unfold wpL_get
  rw [hg, ee]
  refine qk_cust ok F hc' (by omega) (fun j hj h6 => ?_) (fun u1 S1 => ?_)
  · rw [qg_2, nI_add]
    have := k3 c j h6 hj
    rw [show (if j < vc c then vn (4 * c + j) else 0) = (if c < n ∧ j < vc c then vn (4 * c + j) else 0) by
      by_cases y : j < vc c
      · rw [if_pos y, if_pos ⟨hc', y⟩]
      · rw [if_neg y, if_neg (fun w => y w.2)]]
    exact this
  · obtain ⟨cu', ch', en', pe', td', rt', lk', a1', a2', a3', a4', a5', a6', a7', a8', a9', a10', a11', a12', a13', a14', a15', a16', a17', a18', a19', a20', a21', a22', a23', a24', a25', a26', a27'⟩ := u1
    exact br_f (by decide) (qk_379 ok S1 ⟨k1, k2, k3⟩ hs HJ)
theorem qk_314 {cu ch en pe td rt lk : Int32} {a1 a2 a3 a4 a5 a6 a7 a8 a9 a10 a11 a12 a13 a14 a15 a16 a17 a18 a19 a20 a21 a22 a23 a24 a25 a26 a27 : Nat → Int32} (ok : qf_ok n sv ru ar vc vs vn) (F : qf_R n sv ru ar vc vs vn cu a1 a2 a3 a4 a5 a6) (K : qk_I n sv ar vc vn x2 x4 x7) (HJ : ∀ (cu ch en pe td rt lk : Int32) (a1 a2 a3 a4 a5 a6 a7 a8 a9 a10 a11 a12 a13 a14 a15 a16 a17 a18 a19 a20 a21 a22 a23 a24 a25 a26 a27 : Nat → Int32), qf_R n sv ru ar vc vs vn cu a1 a2 a3 a4 a5 a6 → J x2 x4 (nI n) x7 (x8 + 1) cu ch en pe td rt lk a1 a2 a3 a4 a5 a6 a7 a8 a9 a10 a11 a12 a13 a14 a15 a16 a17 a18 a19 a20 a21 a22 a23 a24 a25 a26 a27) : wL_law_314 post L xs J x2 x4 (nI n) x7 x8 x10 kc ks cu ch en pe td rt lk a1 a2 a3 a4 a5 a6 a7 a8 a9 a10 a11 a12 a13 a14 a15 a16 a17 a18 a19 a20 a21 a22 a23 a24 a25 a26 a27 := by
  have hn := ok.1
  obtain ⟨s, hs, es⟩ := pk_andE (x10 >>> ((10 : Int32) &&& 31)) (m := 3) 2 (by decide)
  obtain ⟨j, hj, ej⟩ := pk_andE (x10 >>> ((12 : Int32) &&& 31)) (m := 15) 4 (by decide)
  refine nm_r es ?_
  refine pk_le n 0 (fun z => ?_) (fun z => ⟨nI_ne0 z (by omega), ?_⟩)
  · exact qk_343 (c := 0) ok F K hs (Or.inl (by omega)) HJ
  · rw [ej, pk_rem (by omega) z (by omega)]
    exact qk_343 ok F K hs (Or.inr (Nat.mod_lt _ z)) HJ
end
section
variable {post : Int32 → Prop} {L : Nat} {xs : Nat → Int32} {J : Int64 → Int64 → Int32 → Int32 → Int32 → Int32 → Int32 → Int32 → Int32 → Int32 → Int32 → Int32 → (Nat → Int32) → (Nat → Int32) → (Nat → Int32) → (Nat → Int32) → (Nat → Int32) → (Nat → Int32) → (Nat → Int32) → (Nat → Int32) → (Nat → Int32) → (Nat → Int32) → (Nat → Int32) → (Nat → Int32) → (Nat → Int32) → (Nat → Int32) → (Nat → Int32) → (Nat → Int32) → (Nat → Int32) → (Nat → Int32) → (Nat → Int32) → (Nat → Int32) → (Nat → Int32) → (Nat → Int32) → (Nat → Int32) → (Nat → Int32) → (Nat → Int32) → (Nat → Int32) → (Nat → Int32) → Prop} {x2 x4 : Int64} {x7 x8 x9 x10 : Int32} {kc ks : Nat} {n : Nat} {sv ru ar vc vs vn : Nat → Nat}
theorem qk_64 {cu ch en pe td rt lk : Int32} {a1 a2 a3 a4 a5 a6 a7 a8 a9 a10 a11 a12 a13 a14 a15 a16 a17 a18 a19 a20 a21 a22 a23 a24 a25 a26 a27 : Nat → Int32} {c : Nat} (ok : qf_ok n sv ru ar vc vs vn) (F : qf_R n sv ru ar vc vs vn cu a1 a2 a3 a4 a5 a6) (K : qk_I n sv ar vc vn x2 x4 x7) (hc : c < 12)
    (HJ : ∀ (n : Nat) (sv ru ar vc vs vn : Nat → Nat) (x2 x4 : Int64) (x7 : Int32) (cu ch en pe td rt lk : Int32) (a1 a2 a3 a4 a5 a6 a7 a8 a9 a10 a11 a12 a13 a14 a15 a16 a17 a18 a19 a20 a21 a22 a23 a24 a25 a26 a27 : Nat → Int32), qf_ok n sv ru ar vc vs vn → qf_R n sv ru ar vc vs vn cu a1 a2 a3 a4 a5 a6 → qk_I n sv ar vc vn x2 x4 x7 → J x2 x4 (nI n) x7 (x8 + 1) cu ch en pe td rt lk a1 a2 a3 a4 a5 a6 a7 a8 a9 a10 a11 a12 a13 a14 a15 a16 a17 a18 a19 a20 a21 a22 a23 a24 a25 a26 a27) : wL_law_64 post L xs J x2 x4 (nI n) x7 x8 x9 x10 (nI c) kc ks cu ch en pe td rt lk a1 a2 a3 a4 a5 a6 a7 a8 a9 a10 a11 a12 a13 a14 a15 a16 a17 a18 a19 a20 a21 a22 a23 a24 a25 a26 a27 := by
  have hn := ok.1
  obtain ⟨k1, k2, k3⟩ := K
  refine br_c (fun _ => br_c (fun _ => br_c (fun _ => ?_) (fun _ => ?_)) (fun _ => ?_)) (fun _ => ?_)
  · -- drop
    refine qk_drop ok F (fun z u1 S1 => ?_) (fun k hk ok1 u1 S1 => ?_)
    · obtain ⟨cu', ch', en', pe', td', rt', lk', a1', a2', a3', a4', a5', a6', a7', a8', a9', a10', a11', a12', a13', a14', a15', a16', a17', a18', a19', a20', a21', a22', a23', a24', a25', a26', a27'⟩ := u1
      subst z
      refine br_t qn_m1 (br_f (by decide) ?_)
      refine qk_314 (n := 0) ok S1 ⟨k1, k2, fun d j hd hj => ?_⟩ (fun cu ch en pe td rt lk a1 a2 a3 a4 a5 a6 a7 a8 a9 a10 a11 a12 a13 a14 a15 a16 a17 a18 a19 a20 a21 a22 a23 a24 a25 a26 a27 F1 => HJ _ _ _ _ _ _ _ _ _ _ _ _ _ _ _ _ _ _ _ _ _ _ _ _ _ _ _ _ _ _ _ _ _ _ _ _ _ _ _ _ _ _ _ _ ok F1 ⟨k1, k2, fun d j hd hj => ?_⟩)
      · refine Eq.trans (qg_clr (m := 0) (by omega) (by omega)) ?_
        have h0 := k3 d j hd hj
        rw [if_neg (show ¬ (d < 0 ∧ j < vc d) by omega)] at h0
        rw [h0, if_neg (show ¬ (d < 0 ∧ j < vc d) by omega)]
        split <;> rfl
      · refine Eq.trans (qg_clr (m := 0) (by omega) (by omega)) ?_
        have h0 := k3 d j hd hj
        rw [if_neg (show ¬ (d < 0 ∧ j < vc d) by omega)] at h0
        rw [h0, if_neg (show ¬ (d < 0 ∧ j < vc d) by omega)]
        split <;> rfl
    · obtain ⟨cu', ch', en', pe', td', rt', lk', a1', a2', a3', a4', a5', a6', a7', a8', a9', a10', a11', a12', a13', a14', a15', a16', a17', a18', a19', a20', a21', a22', a23', a24', a25', a26', a27'⟩ := u1
      subst hk
      refine br_f (nI_pos (by omega)) ?_
      have k2' : ∀ c, c < k → ar c ≤ 31 ∧ qg_g x4 c = nI (ar c) := fun c hc => k2 c (by omega)
      refine pk_le 6 k (fun z => ?_) (fun z => ?_)
      · have k3' : ∀ c j, c < 6 → j < 2 → qg_g x2 (2 * c + j) = nI (if c < k ∧ j < vc c then vn (4 * c + j) else 0) := by
          intro d j hd hj
          rw [k3 d j hd hj]
          by_cases y : j < vc d
          · rw [if_pos ⟨by omega, y⟩, if_pos ⟨by omega, y⟩]
          · rw [if_neg (fun w => y w.2), if_neg (fun w => y w.2)]
        exact qk_314 ok1 S1 ⟨k1, k2', k3'⟩ (fun cu ch en pe td rt lk a1 a2 a3 a4 a5 a6 a7 a8 a9 a10 a11 a12 a13 a14 a15 a16 a17 a18 a19 a20 a21 a22 a23 a24 a25 a26 a27 F1 => HJ _ _ _ _ _ _ _ _ _ _ _ _ _ _ _ _ _ _ _ _ _ _ _ _ _ _ _ _ _ _ _ _ _ _ _ _ _ _ _ _ _ _ _ _ ok1 F1 ⟨k1, k2', k3'⟩)
      · have k3' : ∀ c j, c < 6 → j < 2 → qg_g (x2 &&& (((1023 : Int64) <<< ((10 * nI k).toInt64 &&& 63)) ^^^ (-1))) (2 * c + j) = nI (if c < k ∧ j < vc c then vn (4 * c + j) else 0) := by
          intro d j hd hj
          rw [qg_clr z (by omega)]
          by_cases e : d = k
          · rw [if_pos (by omega), if_neg (fun w => by omega)]; rfl
          · rw [if_neg (by omega), k3 d j hd hj]
            by_cases y : d < k ∧ j < vc d
            · rw [if_pos y, if_pos ⟨by omega, y.2⟩]
            · rw [if_neg y, if_neg (fun w => y ⟨by omega, w.2⟩)]
        exact qk_314 ok1 S1 ⟨k1, k2', k3'⟩ (fun cu ch en pe td rt lk a1 a2 a3 a4 a5 a6 a7 a8 a9 a10 a11 a12 a13 a14 a15 a16 a17 a18 a19 a20 a21 a22 a23 a24 a25 a26 a27 F1 => HJ _ _ _ _ _ _ _ _ _ _ _ _ _ _ _ _ _ _ _ _ _ _ _ _ _ _ _ _ _ _ _ _ _ _ _ _ _ _ _ _ _ _ _ _ ok1 F1 ⟨k1, k2', k3'⟩)
  · -- visit
    obtain ⟨d, hd, ed⟩ := pk_andE (x10 >>> ((4 : Int32) &&& 31)) (m := 15) 4 (by decide)
    obtain ⟨s, hs, es⟩ := pk_andE (x10 >>> ((8 : Int32) &&& 31)) (m := 3) 2 (by decide)
    refine nm_r (e' := nI (1 + d)) (by rw [ed, show (1 : Int32) = nI 1 from rfl, nI_add]) ?_
    rw [es]
    refine qk_visit ok F (by omega) (by omega) (by omega) (by omega) (fun z u1 S1 => ?_) (fun z y u1 S1 => ?_) (fun z y ok1 u1 S1 => ?_)
    · obtain ⟨cu', ch', en', pe', td', rt', lk', a1', a2', a3', a4', a5', a6', a7', a8', a9', a10', a11', a12', a13', a14', a15', a16', a17', a18', a19', a20', a21', a22', a23', a24', a25', a26', a27'⟩ := u1
      exact br_t (by decide) (qk_314 ok S1 ⟨k1, k2, k3⟩ (fun cu ch en pe td rt lk a1 a2 a3 a4 a5 a6 a7 a8 a9 a10 a11 a12 a13 a14 a15 a16 a17 a18 a19 a20 a21 a22 a23 a24 a25 a26 a27 F1 => HJ _ _ _ _ _ _ _ _ _ _ _ _ _ _ _ _ _ _ _ _ _ _ _ _ _ _ _ _ _ _ _ _ _ _ _ _ _ _ _ _ _ _ _ _ ok F1 ⟨k1, k2, k3⟩))
    · obtain ⟨cu', ch', en', pe', td', rt', lk', a1', a2', a3', a4', a5', a6', a7', a8', a9', a10', a11', a12', a13', a14', a15', a16', a17', a18', a19', a20', a21', a22', a23', a24', a25', a26', a27'⟩ := u1
      exact br_t (by decide) (qk_314 ok S1 ⟨k1, k2, k3⟩ (fun cu ch en pe td rt lk a1 a2 a3 a4 a5 a6 a7 a8 a9 a10 a11 a12 a13 a14 a15 a16 a17 a18 a19 a20 a21 a22 a23 a24 a25 a26 a27 F1 => HJ _ _ _ _ _ _ _ _ _ _ _ _ _ _ _ _ _ _ _ _ _ _ _ _ _ _ _ _ _ _ _ _ _ _ _ _ _ _ _ _ _ _ _ _ ok F1 ⟨k1, k2, k3⟩))
    · obtain ⟨cu', ch', en', pe', td', rt', lk', a1', a2', a3', a4', a5', a6', a7', a8', a9', a10', a11', a12', a13', a14', a15', a16', a17', a18', a19', a20', a21', a22', a23', a24', a25', a26', a27'⟩ := u1
      have keep : (2 ≤ vc c ∨ 6 ≤ c) → qk_I n sv ar (qn_u vc c (vc c + 1)) (qn_u vn (4 * c + vc c) (1 + d)) x2 x4 x7 := by
        intro h
        refine ⟨k1, k2, fun d' j hd' hj => ?_⟩
        rw [k3 d' j hd' hj]
        by_cases e : d' = c
        · rw [e, qn_us, qn_un (by omega)]
          by_cases w : j < vc c
          · rw [if_pos ⟨z, w⟩, if_pos ⟨z, by omega⟩]
          · omega
        · rw [qn_un e]
          by_cases w : d' < n ∧ j < vc d'
          · have := (ok.2.2.1 d' w.1).2
            rw [if_pos w, if_pos w, qn_un (by omega)]
          · rw [if_neg w, if_neg w]
      refine br_f (nI_nle (by omega) (by omega)) ?_
      refine pk_le 3 (vc c + 1) (fun w => ?_) (fun w => ?_)
      · have kk := keep (Or.inl (by omega))
        exact qk_314 ok1 S1 kk (fun cu ch en pe td rt lk a1 a2 a3 a4 a5 a6 a7 a8 a9 a10 a11 a12 a13 a14 a15 a16 a17 a18 a19 a20 a21 a22 a23 a24 a25 a26 a27 F1 => HJ _ _ _ _ _ _ _ _ _ _ _ _ _ _ _ _ _ _ _ _ _ _ _ _ _ _ _ _ _ _ _ _ _ _ _ _ _ _ _ _ _ _ _ _ ok1 F1 kk)
      · refine pk_le 6 c (fun v => ?_) (fun v => ?_)
        · have kk := keep (Or.inr v)
          exact qk_314 ok1 S1 kk (fun cu ch en pe td rt lk a1 a2 a3 a4 a5 a6 a7 a8 a9 a10 a11 a12 a13 a14 a15 a16 a17 a18 a19 a20 a21 a22 a23 a24 a25 a26 a27 F1 => HJ _ _ _ _ _ _ _ _ _ _ _ _ _ _ _ _ _ _ _ _ _ _ _ _ _ _ _ _ _ _ _ _ _ _ _ _ _ _ _ _ _ _ _ _ ok1 F1 kk)
        · have hix : ((2 * nI c) + nI (vc c + 1)) - 1 = nI (2 * c + vc c) := by
            rw [qg_2, nI_add, ← Nat.add_assoc, nI_pred]
          have kk : qk_I n sv ar (qn_u vc c (vc c + 1)) (qn_u vn (4 * c + vc c) (1 + d)) (qg_w x2 (2 * c + vc c) (nI (1 + d))) x4 x7 := by
            refine ⟨k1, k2, fun d' j hd' hj => ?_⟩
            by_cases e : d' = c
            · rw [e, qn_us]
              by_cases ej : j = vc c
              · rw [ej, qg_same (by omega) (by omega), if_pos ⟨z, by omega⟩, qn_us]
              · rw [qg_else (by omega) (by omega) (by omega) (by omega), k3 c j (by omega) hj, qn_un (by omega)]
                by_cases w2 : j < vc c
                · rw [if_pos ⟨z, w2⟩, if_pos ⟨z, by omega⟩]
                · rw [if_neg (fun w3 => w2 w3.2), if_neg (fun w3 => by omega)]
            · rw [qg_else (by omega) (by omega) (by omega) (by omega), k3 d' j hd' hj, qn_un e]
              by_cases w2 : d' < n ∧ j < vc d'
              · have := (ok.2.2.1 d' w2.1).2
                rw [if_pos w2, if_pos w2, qn_un (by omega)]
              · rw [if_neg w2, if_neg w2]
          rw [hix]
          exact qk_314 ok1 S1 kk (fun cu ch en pe td rt lk a1 a2 a3 a4 a5 a6 a7 a8 a9 a10 a11 a12 a13 a14 a15 a16 a17 a18 a19 a20 a21 a22 a23 a24 a25 a26 a27 F1 => HJ _ _ _ _ _ _ _ _ _ _ _ _ _ _ _ _ _ _ _ _ _ _ _ _ _ _ _ _ _ _ _ _ _ _ _ _ _ _ _ _ _ _ _ _ ok1 F1 kk)
  · -- arrive
    obtain ⟨x, hx, ex⟩ := pk_andE x10 (m := 31) 5 (by decide)
    rw [ex]
    refine qk_arrive ok F (by omega) (fun z u1 S1 => ?_) (fun z ok1 u1 S1 => ?_)
    · obtain ⟨cu', ch', en', pe', td', rt', lk', a1', a2', a3', a4', a5', a6', a7', a8', a9', a10', a11', a12', a13', a14', a15', a16', a17', a18', a19', a20', a21', a22', a23', a24', a25', a26', a27'⟩ := u1
      exact br_t (by decide) (br_t (by decide) (qk_314 ok S1 ⟨k1, k2, k3⟩ (fun cu ch en pe td rt lk a1 a2 a3 a4 a5 a6 a7 a8 a9 a10 a11 a12 a13 a14 a15 a16 a17 a18 a19 a20 a21 a22 a23 a24 a25 a26 a27 F1 => HJ _ _ _ _ _ _ _ _ _ _ _ _ _ _ _ _ _ _ _ _ _ _ _ _ _ _ _ _ _ _ _ _ _ _ _ _ _ _ _ _ _ _ _ _ ok F1 ⟨k1, k2, k3⟩)))
    · obtain ⟨cu', ch', en', pe', td', rt', lk', a1', a2', a3', a4', a5', a6', a7', a8', a9', a10', a11', a12', a13', a14', a15', a16', a17', a18', a19', a20', a21', a22', a23', a24', a25', a26', a27'⟩ := u1
      have kk : qk_I (n + 1) sv (qn_u ar n x) (qn_u vc n 0) vn x2 (qg_w x4 n (nI x)) x7 := by
        refine ⟨k1, fun d hd => ?_, fun d j hd hj => ?_⟩
        · by_cases e : d = n
          · rw [e, qn_us, qg_same z (by omega)]; exact ⟨by omega, rfl⟩
          · rw [qn_un e, qg_else z (by omega) (by omega) e]; exact k2 d (by omega)
        · rw [k3 d j hd hj]
          by_cases e : d = n
          · rw [e, qn_us, if_neg (fun w => by omega), if_neg (fun w => by omega)]
          · rw [qn_un e]
            by_cases w : d < n ∧ j < vc d
            · rw [if_pos w, if_pos ⟨by omega, w.2⟩]
            · rw [if_neg w, if_neg (fun w2 => w ⟨by omega, w2.2⟩)]
      refine br_f (nI_pos (by omega)) (br_f (nI_pos (by omega)) ?_)
      show wL_law_187 _ _ _ _ _ _ _ _ _ (nI n + 1) _ _ _ _ _ _ _ _ _ _ _ _ _ _ _ _ _ _ _ _ _ _ _ _ _ _ _ _ _ _ _ _ _ _ _ _
      rw [nI_1]
      exact qk_314 ok1 S1 kk (fun cu ch en pe td rt lk a1 a2 a3 a4 a5 a6 a7 a8 a9 a10 a11 a12 a13 a14 a15 a16 a17 a18 a19 a20 a21 a22 a23 a24 a25 a26 a27 F1 => HJ _ _ _ _ _ _ _ _ _ _ _ _ _ _ _ _ _ _ _ _ _ _ _ _ _ _ _ _ _ _ _ _ _ _ _ _ _ _ _ _ _ _ _ _ ok1 F1 kk)
  · -- station
    obtain ⟨s, hs, es⟩ := pk_andE x10 (m := 3) 2 (by decide)
    obtain ⟨j, hj, ej⟩ := pk_andE (x10 >>> ((2 : Int32) &&& 31)) (m := 3) 2 (by decide)
    obtain ⟨r, hr, er⟩ := pk_andE (x10 >>> ((4 : Int32) &&& 31)) (m := 3) 2 (by decide)
    have e3 : ∀ q, q < 4 → nI q - nI q / 3 * 3 = nI (q % 3) := fun q hq => pk_rem (d := 3) (by omega) (by decide) (by decide)
    refine nm_r es ⟨qn_3, nm_r (e' := nI (1 + j % 3)) (by rw [ej, e3 j (by omega), show (1 : Int32) = nI 1 from rfl, nI_add]) ⟨qn_3, ?_⟩⟩
    rw [er, e3 r (by omega)]
    refine qk_station ok F (by omega) (by omega) (by omega) (by omega) (fun ok1 u1 S1 => ?_)
    obtain ⟨cu', ch', en', pe', td', rt', lk', a1', a2', a3', a4', a5', a6', a7', a8', a9', a10', a11', a12', a13', a14', a15', a16', a17', a18', a19', a20', a21', a22', a23', a24', a25', a26', a27'⟩ := u1
    refine nm_e ?_
    have kk : qk_I n (qn_u sv s (1 + j % 3)) ar vc vn x2 x4 ((x7 &&& (((3 : Int32) <<< ((2 * nI s) &&& 31)) ^^^ (-1))) ||| (nI (1 + j % 3) <<< ((2 * nI s) &&& 31))) := by
      refine ⟨fun s' hs' => ?_, k2, k3⟩
      rw [qg_sw (by omega) hs' (by omega)]
      by_cases e : s' = s
      · rw [if_pos e, e, qn_us]
      · rw [if_neg e, qn_un e]; exact k1 s' hs'
    exact qk_314 ok1 S1 kk (fun cu ch en pe td rt lk a1 a2 a3 a4 a5 a6 a7 a8 a9 a10 a11 a12 a13 a14 a15 a16 a17 a18 a19 a20 a21 a22 a23 a24 a25 a26 a27 F1 => HJ _ _ _ _ _ _ _ _ _ _ _ _ _ _ _ _ _ _ _ _ _ _ _ _ _ _ _ _ _ _ _ _ _ _ _ _ _ _ _ _ _ _ _ _ ok1 F1 kk)
end
theorem qk_loop {L : Nat} {xs : Nat → Int32} {kc ks : Nat} (hL : L ≤ 260) : ∀ (f k : Nat) (n : Nat) (sv ru ar vc vs vn : Nat → Nat) (x2 x4 : Int64) (x7 : Int32) (cu ch en pe td rt lk : Int32) (a1 a2 a3 a4 a5 a6 a7 a8 a9 a10 a11 a12 a13 a14 a15 a16 a17 a18 a19 a20 a21 a22 a23 a24 a25 a26 a27 : Nat → Int32), k + f = L → qf_ok n sv ru ar vc vs vn → qf_R n sv ru ar vc vs vn cu a1 a2 a3 a4 a5 a6 → qk_I n sv ar vc vn x2 x4 x7 → wL_law_23 (fun r => r = 1) L xs kc ks (f + 1) x2 x4 (nI n) x7 (nI k) cu ch en pe td rt lk a1 a2 a3 a4 a5 a6 a7 a8 a9 a10 a11 a12 a13 a14 a15 a16 a17 a18 a19 a20 a21 a22 a23 a24 a25 a26 a27 := by
  intro f
  induction f with
  | zero =>
    intro k n sv ru ar vc vs vn x2 x4 x7 cu ch en pe td rt lk a1 a2 a3 a4 a5 a6 a7 a8 a9 a10 a11 a12 a13 a14 a15 a16 a17 a18 a19 a20 a21 a22 a23 a24 a25 a26 a27 hk ok F K
    have hkL : k = L := by omega
    subst hkL
    exact br_t (Int32.le_refl _) rfl
  | succ f ih =>
    intro k n sv ru ar vc vs vn x2 x4 x7 cu ch en pe td rt lk a1 a2 a3 a4 a5 a6 a7 a8 a9 a10 a11 a12 a13 a14 a15 a16 a17 a18 a19 a20 a21 a22 a23 a24 a25 a26 a27 hk ok F K
    have hn := ok.1
    have hJ : ∀ (n : Nat) (sv ru ar vc vs vn : Nat → Nat) (x2 x4 : Int64) (x7 : Int32) (cu ch en pe td rt lk : Int32) (a1 a2 a3 a4 a5 a6 a7 a8 a9 a10 a11 a12 a13 a14 a15 a16 a17 a18 a19 a20 a21 a22 a23 a24 a25 a26 a27 : Nat → Int32), qf_ok n sv ru ar vc vs vn → qf_R n sv ru ar vc vs vn cu a1 a2 a3 a4 a5 a6 → qk_I n sv ar vc vn x2 x4 x7 → wL_law_23 (fun r => r = 1) L xs kc ks (f + 1) x2 x4 (nI n) x7 (nI k + 1) cu ch en pe td rt lk a1 a2 a3 a4 a5 a6 a7 a8 a9 a10 a11 a12 a13 a14 a15 a16 a17 a18 a19 a20 a21 a22 a23 a24 a25 a26 a27 := by
      intro n sv ru ar vc vs vn x2 x4 x7 cu ch en pe td rt lk a1 a2 a3 a4 a5 a6 a7 a8 a9 a10 a11 a12 a13 a14 a15 a16 a17 a18 a19 a20 a21 a22 a23 a24 a25 a26 a27 ok F K
      rw [nI_1]
      exact ih (k + 1) n sv ru ar vc vs vn x2 x4 x7 cu ch en pe td rt lk a1 a2 a3 a4 a5 a6 a7 a8 a9 a10 a11 a12 a13 a14 a15 a16 a17 a18 a19 a20 a21 a22 a23 a24 a25 a26 a27 (by omega) ok F K
    refine br_f (nI_ge (by omega) (by omega)) ⟨pk_in k L (by omega), nm_e ⟨pk_in k L (by omega), nm_e ?_⟩⟩
    refine pk_le n 0 (fun z => ?_) (fun z => ⟨nI_ne0 z (by omega), ?_⟩)
    · exact qk_64 (c := 0) ok F K (by omega) hJ
    · obtain ⟨j, hj, ej⟩ := pk_andE (xs (nI k).toNatClampNeg >>> ((4 : Int32) &&& 31)) (m := 15) 4 (by decide)
      rw [ej, pk_rem (by omega) z (by omega)]
      have := Nat.mod_lt j z
      exact qk_64 (c := j % n) ok F K (by omega) hJ
end
section
theorem i_vc (xs : Nat → Int32) (L : Nat) (hL : L ≤ 260) : wpL_law (fun r => r = 1) L xs := by
  refine Exists.intro 27 (Exists.intro 1120 ⟨by omega, by omega, And.intro (by omega) ⟨by omega, by omega, by omega, by omega, by omega, by omega, by omega, by omega, by omega, by omega, by omega, by omega, by omega, by omega, by omega, by omega, by omega, by omega, by omega, by omega, by omega, by omega, by omega, by omega, by omega, by omega, by omega, by omega, by omega, by omega, by omega, by omega, by omega, by omega, by omega, by omega, by omega, by omega, by omega, by omega, by omega, by omega, by omega, by omega, by omega, by omega, by omega, by omega, by omega, by omega, by omega, by omega, by omega, ?_⟩⟩)
  refine pk_loop (fun j i s => wX_init_222 _ 27 1120 27 1120 0 0 0 0 0 0 0 j (nI i) s (fun _ => 0) (fun _ => 0) (fun _ => 0) (fun _ => 0) (fun _ => 0) (fun _ => 0) (fun _ => 0) (fun _ => 0) (fun _ => 0) (fun _ => 0) (fun _ => 0) (fun _ => 0) (fun _ => 0) (fun _ => 0) (fun _ => 0) (fun _ => 0) (fun _ => 0) (fun _ => 0) (fun _ => 0) (fun _ => 0) (fun _ => 0) (fun _ => 0) (fun _ => 0) (fun _ => 0) (fun _ => 0) (fun _ => 0)) (fun i s => ∀ d, d < i → s d = 1) 4 0 (fun _ => 0) (by omega) (fun d hd => absurd hd (by omega)) ?_ ?_
  · intro j s hs
    refine br_t (Int32.le_refl _) (Exists.intro (L + 1) ?_)
    refine qk_loop hL L 0 0 (fun _ => 1) (fun _ => 0) (fun _ => 0) (fun _ => 0) (fun _ => 0) (fun _ => 0) 0 0 85 _ _ _ _ _ _ _ _ _ _ _ _ _ _ _ _ _ _ _ _ _ _ _ _ _ _ _ _ _ _ _ _ _ _ (by omega) ⟨by omega, fun s hs => ⟨Nat.le_refl 1, show 1 ≤ 3 by omega, show 0 ≤ 2 by omega⟩, fun c hc => absurd hc (by omega), fun c j hc => absurd hc (by omega)⟩ ⟨rfl, fun d hd => ⟨hs d hd, rfl⟩, fun c hc => absurd hc (by omega), fun c j hc => absurd hc (by omega)⟩ ⟨qg_85, fun c hc => absurd hc (by omega), fun c j hc hj => ?_⟩
    rw [qg_0 (by omega), if_neg (fun w => absurd w.1 (by omega))]
  · intro j i s hi hs hw
    refine br_f (nI_ge (b := 4) hi (by decide)) ⟨pk_in i 4 hi, nm_e (nm_r (nI_1 i) (hw _ (fun d hd => ?_)))⟩
    rw [qn_cl (show i < 1048576 by omega)]
    by_cases e : d = i
    · rw [e, pk_us]
    · rw [pk_un e]; exact hs d (by omega)
end
