section
/-! the picture: base b, urgency u, what a thread waits for w, who holds a lock h -/
def ql_o : Option Nat → Int32
  | none => -1
  | some n => nI n
theorem ql_o_neg : ql_o none < 0 := by decide
theorem ql_o_n0 : ¬ (0 : Int32) ≤ ql_o none := by decide
theorem ql_us {α : Type} {f : Nat → α} {k : Nat} {v : α} : va_up f k v k = v := if_pos rfl
theorem ql_un {α : Type} {f : Nat → α} {k j : Nat} {v : α} (h : j ≠ k) : va_up f k v j = f j := if_neg h
theorem ql_byte : ∀ n, n < 10 → (nI n).toInt8.toInt32 = nI n := by decide +kernel
theorem ql_byteO {o : Option Nat} (h : ∀ q, o = some q → q < 6) : (ql_o o).toInt8.toInt32 = ql_o o := by
  cases o with
  | none => decide
  | some q => exact ql_byte q (Nat.lt_of_lt_of_le (h q rfl) (by decide))
def ql_nx (w h : Nat → Option Nat) (s : Nat) : Option Nat := (w s).bind h
theorem ql_nxS {w h : Nat → Option Nat} {s p : Nat} (e : ql_nx w h s = some p) : ∃ l, w s = some l ∧ h l = some p := by
  unfold ql_nx at e
  cases ew : w s with
  | none => rw [ew] at e; simp at e
  | some l => rw [ew] at e; exact ⟨l, rfl, e⟩
theorem ql_nxI {w h : Nat → Option Nat} {s l p : Nat} (e : w s = some l) (e' : h l = some p) : ql_nx w h s = some p := by
  unfold ql_nx
  rw [e]
  exact e'
theorem ql_nxN {w h : Nat → Option Nat} {s : Nat} (e : w s = none) : ql_nx w h s = none := by
  unfold ql_nx
  rw [e]
  rfl
def ql_B (a : Nat → Int32) (f : Nat → Nat) : Prop := ∀ t, t < 6 → f t < 10 ∧ a t = nI (f t)
def ql_C (w h : Nat → Option Nat) (a3 a5 : Nat → Int32) : Prop := (∀ t, t < 6 → a3 t = ql_o (w t) ∧ ∀ l, w t = some l → l < 5 ∧ ∃ p, h l = some p) ∧ (∀ l, l < 5 → a5 l = ql_o (h l) ∧ ∀ p, h l = some p → p < 6)
def ql_R (r : Nat → Nat) (w h : Nat → Option Nat) : Prop := ∀ s p, s < 6 → ql_nx w h s = some p → r p < r s
def ql_K (b u : Nat → Nat) (w h : Nat → Option Nat) (x : Nat) : Prop := b x ≤ u x ∧ ∀ s, s < 6 → ql_nx w h s = some x → u s ≤ u x
/-- the invariant of the law's loop -/
def ql_V (a1 a2 a3 a5 : Nat → Int32) : Prop := ∃ (b u : Nat → Nat) (w h : Nat → Option Nat), ql_B a1 b ∧ ql_B a2 u ∧ ql_C w h a3 a5 ∧ (∃ r, ql_R r w h) ∧ ∀ x, x < 6 → ql_K b u w h x
theorem ql_edge {w h : Nat → Option Nat} {a3 a5 : Nat → Int32} (hc : ql_C w h a3 a5) {s : Nat} (hs : s < 6) : (w s = none ∧ a3 s = -1 ∧ ql_nx w h s = none) ∨ (∃ l p, w s = some l ∧ h l = some p ∧ l < 5 ∧ p < 6 ∧ a3 s = nI l ∧ a5 l = nI p ∧ ql_nx w h s = some p) := by
  have h3 := hc.1 s hs
  cases e : w s with
  | none => exact Or.inl ⟨rfl, by rw [h3.1, e]; rfl, ql_nxN e⟩
  | some l =>
    obtain ⟨hl, p, hp⟩ := h3.2 l e
    have h5 := hc.2 l hl
    exact Or.inr ⟨l, p, rfl, hp, hl, h5.2 p hp, by rw [h3.1, e]; rfl, by rw [h5.1, hp]; rfl, ql_nxI e hp⟩
theorem ql_nx6 {w h : Nat → Option Nat} {a3 a5 : Nat → Int32} (hc : ql_C w h a3 a5) {s p : Nat} (hs : s < 6) (e : ql_nx w h s = some p) : p < 6 := by
  obtain ⟨l, el, ep⟩ := ql_nxS e
  exact (hc.2 l ((hc.1 s hs).2 l el).1).2 p ep
/-! a rank squeezed below 6 -/
def ql_cn (r : Nat → Nat) (v : Nat) : Nat → Nat
  | 0 => 0
  | n + 1 => ql_cn r v n + (if r n < v then 1 else 0)
theorem ql_cn_le (r : Nat → Nat) (v n : Nat) : ql_cn r v n ≤ n := by
  induction n with
  | zero => exact Nat.le_refl 0
  | succ n ih =>
    show ql_cn r v n + (if r n < v then 1 else 0) ≤ n + 1
    split <;> omega
theorem ql_cn_lt {r : Nat → Nat} {v s : Nat} (hv : v ≤ r s) (n : Nat) (hs : s < n) : ql_cn r v n < n := by
  induction n with
  | zero => exact absurd hs (by omega)
  | succ n ih =>
    show ql_cn r v n + (if r n < v then 1 else 0) < n + 1
    have h1 := ql_cn_le r v n
    by_cases e : s = n
    · rw [if_neg (by rw [← e]; omega)]
      omega
    · have h2 := ih (by omega)
      split <;> omega
theorem ql_cn_mono {r : Nat → Nat} {v v' : Nat} (hv : v ≤ v') (n : Nat) : ql_cn r v n ≤ ql_cn r v' n := by
  induction n with
  | zero => exact Nat.le_refl 0
  | succ n ih =>
    show ql_cn r v n + (if r n < v then 1 else 0) ≤ ql_cn r v' n + (if r n < v' then 1 else 0)
    split <;> split <;> omega
theorem ql_cn_strict {r : Nat → Nat} {v v' p : Nat} (h1 : v ≤ r p) (h2 : r p < v') (n : Nat) (hp : p < n) : ql_cn r v n < ql_cn r v' n := by
  induction n with
  | zero => exact absurd hp (by omega)
  | succ n ih =>
    show ql_cn r v n + (if r n < v then 1 else 0) < ql_cn r v' n + (if r n < v' then 1 else 0)
    by_cases e : p = n
    · have h3 := ql_cn_mono (r := r) (v := v) (v' := v') (by omega) n
      rw [if_neg (by rw [← e]; omega), if_pos (by rw [← e]; omega)]
      omega
    · have h3 := ih (by omega)
      split <;> split <;> omega
theorem ql_rank {w h : Nat → Option Nat} {a3 a5 : Nat → Int32} (hc : ql_C w h a3 a5) (hr : ∃ r, ql_R r w h) : ∃ r, ql_R r w h ∧ ∀ s, s < 6 → r s ≤ 5 := by
  obtain ⟨r, hr⟩ := hr
  refine ⟨fun s => ql_cn r (r s) 6, fun s p hs e => ?_, fun s hs => ?_⟩
  · exact ql_cn_strict (Nat.le_refl _) (hr s p hs e) 6 (ql_nx6 hc hs e)
  · exact Nat.le_of_lt_succ (ql_cn_lt (Nat.le_refl _) 6 hs)
/-- some thread doesn't wait -/
theorem ql_free {w h : Nat → Option Nat} {a3 a5 : Nat → Int32} {r : Nat → Nat} (hc : ql_C w h a3 a5) (hr : ql_R r w h) : ∃ s, s < 6 ∧ w s = none := by
  have key : ∀ k s, s < 6 → r s ≤ k → ∃ s, s < 6 ∧ w s = none := by
    intro k
    induction k with
    | zero =>
      intro s hs hk
      rcases ql_edge hc hs with ⟨e, _, _⟩ | ⟨l, p, _, _, _, hp, _, _, e⟩
      · exact ⟨s, hs, e⟩
      · have := hr s p hs e
        omega
    | succ k ih =>
      intro s hs hk
      rcases ql_edge hc hs with ⟨e, _, _⟩ | ⟨l, p, _, _, _, hp, _, _, e⟩
      · exact ⟨s, hs, e⟩
      · have := hr s p hs e
        exact ih p hp (by omega)
  exact key (r 0) 0 (by omega) (Nat.le_refl _)
/-! chains -/
def ql_it (w h : Nat → Option Nat) : Nat → Nat → Option Nat
  | 0, s => some s
  | k + 1, s => (ql_it w h k s).bind (ql_nx w h)
def ql_D (w h : Nat → Option Nat) (s t : Nat) : Prop := ∃ k, ql_it w h (k + 1) s = some t
theorem ql_itS {w h : Nat → Option Nat} {k s c : Nat} (e : ql_it w h k s = some c) : ql_it w h (k + 1) s = ql_nx w h c := by
  show (ql_it w h k s).bind (ql_nx w h) = _
  rw [e]
  rfl
theorem ql_itN {w h : Nat → Option Nat} {k s : Nat} (e : ql_it w h k s = none) (d : Nat) : ql_it w h (k + d) s = none := by
  induction d with
  | zero => exact e
  | succ d ih =>
    show (ql_it w h (k + d) s).bind (ql_nx w h) = none
    rw [ih]
    rfl
theorem ql_it6 {w h : Nat → Option Nat} {a3 a5 : Nat → Int32} {r : Nat → Nat} (hc : ql_C w h a3 a5) (hr : ql_R r w h) {s : Nat} (hs : s < 6) (k : Nat) : ∀ c, ql_it w h k s = some c → c < 6 ∧ r c + k ≤ r s := by
  induction k with
  | zero =>
    intro c e
    have e' : some s = some c := e
    injection e' with e'
    rw [← e']
    exact ⟨hs, Nat.le_refl _⟩
  | succ k ih =>
    intro c e
    cases ek : ql_it w h k s with
    | none =>
      have := ql_itN ek 1
      rw [this] at e
      simp at e
    | some d =>
      obtain ⟨hd, hdk⟩ := ih d ek
      rw [ql_itS ek] at e
      have := hr d c hd e
      exact ⟨ql_nx6 hc hd e, by omega⟩
/-- no thread waits for itself -/
theorem ql_irr {w h : Nat → Option Nat} {a3 a5 : Nat → Int32} {r : Nat → Nat} (hc : ql_C w h a3 a5) (hr : ql_R r w h) {t : Nat} (ht : t < 6) : ¬ ql_D w h t t := by
  intro hd
  obtain ⟨k, e⟩ := hd
  have := (ql_it6 hc hr ht (k + 1) t e).2
  omega
theorem ql_dir {w h : Nat → Option Nat} {t p : Nat} (e : ql_nx w h t = some p) : ql_D w h t p := ⟨0, by rw [ql_itS (c := t) rfl]; exact e⟩
theorem ql_noself {w h : Nat → Option Nat} {r : Nat → Nat} (hr : ql_R r w h) {t : Nat} (ht : t < 6) : ql_nx w h t ≠ some t := by
  intro e
  have := hr t t ht e
  omega
/-! acyclic after each call -/
theorem ql_acy_add {w h : Nat → Option Nat} {r : Nat → Nat} {t l p : Nat} (hr : ql_R r w h) (hr5 : ∀ s, s < 6 → r s ≤ 5) (hl : h l = some p) (hp : p < 6) (hpt : p ≠ t) (hd : ¬ ql_D w h p t) : ∃ r', ql_R r' (va_up w t (some l)) h := by
  classical
  refine ⟨fun x => if (∃ k, ql_it w h k p = some x) then r x else r x + 6, fun s q hs e => ?_⟩
  dsimp only
  by_cases est : s = t
  · have e2 : ql_nx (va_up w t (some l)) h s = some p := ql_nxI (l := l) (by rw [est]; exact ql_us) hl
    rw [e2] at e
    injection e with e
    rw [if_pos (⟨0, by rw [← e]; rfl⟩ : ∃ k, ql_it w h k p = some q), if_neg]
    · have := hr5 p hp
      rw [← e]
      omega
    · rintro ⟨k, ek⟩
      rw [est] at ek
      cases k with
      | zero =>
        have ek' : some p = some t := ek
        injection ek' with ek'
        exact hpt ek'
      | succ k => exact hd ⟨k, ek⟩
  · have e2 : ql_nx w h s = some q := by
      rw [← e]
      unfold ql_nx
      rw [ql_un est]
    have h1 := hr s q hs e2
    by_cases cs : ∃ k, ql_it w h k p = some s
    · obtain ⟨k, ek⟩ := cs
      rw [if_pos (⟨k + 1, by rw [ql_itS ek]; exact e2⟩ : ∃ k, ql_it w h k p = some q), if_pos (⟨k, ek⟩ : ∃ k, ql_it w h k p = some s)]
      exact h1
    · rw [if_neg cs]
      split <;> omega
theorem ql_nx_drop {w h : Nat → Option Nat} {t s p : Nat} (e : ql_nx (va_up w t none) h s = some p) : s ≠ t ∧ ql_nx w h s = some p := by
  by_cases est : s = t
  · rw [est, ql_nxN ql_us] at e
    simp at e
  · refine ⟨est, ?_⟩
    rw [← e]
    unfold ql_nx
    rw [ql_un est]
/-- who waits for whom when lock l is handed on to n -/
theorem ql_nx_give {w h : Nat → Option Nat} {n l s p : Nat} (e : ql_nx (va_up w n none) (va_up h l (some n)) s = some p) : s ≠ n ∧ (p = n ∨ ql_nx w h s = some p) := by
  by_cases es : s = n
  · rw [es, ql_nxN ql_us] at e
    simp at e
  · refine ⟨es, ?_⟩
    obtain ⟨l', e1, e2⟩ := ql_nxS e
    rw [ql_un es] at e1
    by_cases el : l' = l
    · rw [el, ql_us] at e2
      injection e2 with e2
      exact Or.inl e2.symm
    · rw [ql_un el] at e2
      exact Or.inr (ql_nxI e1 e2)
theorem ql_acy_give {w h : Nat → Option Nat} {r : Nat → Nat} {n l : Nat} (hr : ql_R r w h) : ql_R (fun x => if x = n then 0 else r x + 1) (va_up w n none) (va_up h l (some n)) := by
  intro s p hs e
  obtain ⟨h1, h2⟩ := ql_nx_give e
  dsimp only
  rw [if_neg h1]
  by_cases ep : p = n
  · rw [if_pos ep]
    omega
  · rw [if_neg ep]
    rcases h2 with h2 | h2
    · exact absurd h2 ep
    · have := hr s p hs h2
      omega
/-- a lock that nobody waits for changes hands: nobody's chain changes -/
theorem ql_nx_lock {w h : Nat → Option Nat} {l : Nat} {o : Option Nat} {s : Nat} (hn : w s ≠ some l) : ql_nx w (va_up h l o) s = ql_nx w h s := by
  unfold ql_nx
  cases e : w s with
  | none => rfl
  | some l' =>
    show va_up h l o l' = h l'
    exact ql_un (fun z => hn (by rw [e, z]))
/-! the match of arrays and picture under stores -/
theorem ql_Bup {a : Nat → Int32} {f : Nat → Nat} {p m : Nat} (hB : ql_B a f) (hm : m < 10) : ql_B (upd a p (nI m)) (va_up f p m) := by
  intro t ht
  by_cases e : t = p
  · rw [e, ql_us, pk_us]
    exact ⟨hm, rfl⟩
  · rw [ql_un e, pk_un e]
    exact hB t ht
/-! bits below 64 -/
theorem ql_b1 : ∀ m, m < 64 → ∀ i, i < 6 → nI m ||| ((1 : Int32) <<< (nI i &&& 31)) = nI (m ||| 2 ^ i) := by decide +kernel
theorem ql_b0 : ∀ m, m < 64 → nI m ||| 0 = nI m := by decide +kernel
theorem ql_b2 : ∀ m, m < 64 → ∀ i, i < 6 → (m ||| 2 ^ i) < 64 ∧ ∀ j, j < 6 → (m ||| 2 ^ i).testBit j = (m.testBit j || decide (j = i)) := by decide +kernel
theorem ql_b3 : ∀ m, m < 64 → ∀ i, i < 6 → ((nI m >>> (nI i &&& 31)) &&& 1) = if m.testBit i then 1 else 0 := by decide +kernel
def ql_M (c : Nat → Prop) (i m : Nat) : Prop := m < 64 ∧ ∀ j, j < 6 → (m.testBit j = true ↔ j < i ∧ c j)
theorem ql_M0 {c : Nat → Prop} : ql_M c 0 0 := ⟨by omega, fun j _ => ⟨fun z => absurd z (by simp), fun z => absurd z.1 (by omega)⟩⟩
theorem ql_M1 {c : Nat → Prop} {i m : Nat} (h : ql_M c i m) (hi : i < 6) (hc : c i) : ql_M c (i + 1) (m ||| 2 ^ i) := by
  obtain ⟨h1, h2⟩ := ql_b2 m h.1 i hi
  refine ⟨h1, fun j hj => ?_⟩
  rw [h2 j hj, Bool.or_eq_true, h.2 j hj, decide_eq_true_iff]
  constructor
  · rintro (⟨z, y⟩ | z)
    · exact ⟨by omega, y⟩
    · rw [z]
      exact ⟨by omega, hc⟩
  · rintro ⟨z, y⟩
    by_cases e : j = i
    · exact Or.inr e
    · exact Or.inl ⟨by omega, y⟩
theorem ql_MN {c : Nat → Prop} {i m : Nat} (h : ql_M c i m) (hc : ¬ c i) : ql_M c (i + 1) m := by
  refine ⟨h.1, fun j hj => ?_⟩
  rw [h.2 j hj]
  constructor
  · rintro ⟨z, y⟩
    exact ⟨by omega, y⟩
  · rintro ⟨z, y⟩
    by_cases e : j = i
    · rw [e] at y
      exact absurd y hc
    · exact ⟨by omega, y⟩
theorem ql_Mt {c : Nat → Prop} {n m t : Nat} (h : ql_M c n m) (hn : n ≤ 6) (ht : t < n) (hc : c t) : ((nI m >>> (nI t &&& 31)) &&& 1) = 1 := by
  rw [ql_b3 m h.1 t (by omega), if_pos ((h.2 t (by omega)).mpr ⟨ht, hc⟩)]
theorem ql_Mf {c : Nat → Prop} {n m t : Nat} (h : ql_M c n m) (hn : n ≤ 6) (ht : t < n) (hc : ¬ c t) : ((nI m >>> (nI t &&& 31)) &&& 1) = 0 := by
  rw [ql_b3 m h.1 t (by omega), if_neg (fun z => hc ((h.2 t (by omega)).mp z).2)]
/-! the best waiting thread, as a function of the arrays -/
def ql_bw (a2 a3 a4 : Nat → Int32) (l : Int32) : Nat → Option Nat
  | 0 => none
  | n + 1 => match ql_bw a2 a3 a4 l n with
    | none => if a3 n = l then some n else none
    | some q => if a3 n = l ∧ (¬ a2 n ≤ a2 q ∨ (a2 n = a2 q ∧ ¬ a4 q ≤ a4 n)) then some n else some q
theorem ql_bwN {a2 a3 a4 : Nat → Int32} {l : Int32} {n : Nat} (e : ql_bw a2 a3 a4 l n = none) : ql_bw a2 a3 a4 l (n + 1) = if a3 n = l then some n else none := by
  show (match ql_bw a2 a3 a4 l n with | none => _ | some q => _) = _
  rw [e]
theorem ql_bwS {a2 a3 a4 : Nat → Int32} {l : Int32} {n q : Nat} (e : ql_bw a2 a3 a4 l n = some q) : ql_bw a2 a3 a4 l (n + 1) = if a3 n = l ∧ (¬ a2 n ≤ a2 q ∨ (a2 n = a2 q ∧ ¬ a4 q ≤ a4 n)) then some n else some q := by
  show (match ql_bw a2 a3 a4 l n with | none => _ | some q => _) = _
  rw [e]
theorem ql_bw_some {a2 a3 a4 : Nat → Int32} {l : Int32} (n : Nat) : ∀ q, ql_bw a2 a3 a4 l n = some q → q < n ∧ a3 q = l := by
  induction n with
  | zero =>
    intro q e
    have e' : (none : Option Nat) = some q := e
    simp at e'
  | succ n ih =>
    intro q e
    cases en : ql_bw a2 a3 a4 l n with
    | none =>
      rw [ql_bwN en] at e
      by_cases c : a3 n = l
      · rw [if_pos c] at e
        injection e with e
        rw [← e]
        exact ⟨by omega, c⟩
      · rw [if_neg c] at e
        simp at e
    | some x =>
      rw [ql_bwS en] at e
      obtain ⟨i1, i2⟩ := ih x en
      by_cases c : a3 n = l ∧ (¬ a2 n ≤ a2 x ∨ (a2 n = a2 x ∧ ¬ a4 x ≤ a4 n))
      · rw [if_pos c] at e
        injection e with e
        rw [← e]
        exact ⟨by omega, c.1⟩
      · rw [if_neg c] at e
        injection e with e
        rw [← e]
        exact ⟨by omega, i2⟩
theorem ql_bw_none {a2 a3 a4 : Nat → Int32} {l : Int32} (n : Nat) : ql_bw a2 a3 a4 l n = none → ∀ s, s < n → a3 s ≠ l := by
  induction n with
  | zero => exact fun _ s hs => absurd hs (by omega)
  | succ n ih =>
    intro e
    cases en : ql_bw a2 a3 a4 l n with
    | none =>
      rw [ql_bwN en] at e
      by_cases c : a3 n = l
      · rw [if_pos c] at e
        simp at e
      · exact lt_s (ih en) c
    | some x =>
      rw [ql_bwS en] at e
      by_cases c : a3 n = l ∧ (¬ a2 n ≤ a2 x ∨ (a2 n = a2 x ∧ ¬ a4 x ≤ a4 n))
      · rw [if_pos c] at e
        simp at e
      · rw [if_neg c] at e
        simp at e
end
section
/-! the looking methods, each once -/
section
variable {post : Int32 → Prop} {st : Int32} {a1 a2 a3 a4 a5 : Nat → Int32} {b u r : Nat → Nat} {w h : Nat → Option Nat}
theorem ql_isT {t : Nat} (ht : t < 6) (H : post 1) : wpX_isThread post () (nI t) :=
  br_f (nI_pos (by omega)) (br_f (nI_ge (b := 6) ht (by decide)) H)
theorem ql_isL {l : Nat} (hl : l < 5) (H : post 1) : wpX_isLock post () (nI l) :=
  br_f (nI_pos (by omega)) (br_f (nI_ge (b := 5) hl (by decide)) H)
theorem ql_urg (hu : ql_B a2 u) {t : Nat} (ht : t < 6) (H : post (nI (u t))) : wpX_urgency post (st, a1, a2, a3, a4, a5) (nI t) := by
  unfold wpX_urgency
  refine ql_isT ht (br_f (by decide) ⟨pk_in t 6 ht, ?_⟩)
  rw [nI_clamp (show t < 2 ^ 31 by omega), (hu t ht).2]
  exact H
theorem ql_base (hb : ql_B a1 b) {t : Nat} (ht : t < 6) (H : post (nI (b t))) : wpX_base post (st, a1, a2, a3, a4, a5) (nI t) := by
  unfold wpX_base
  refine ql_isT ht (br_f (by decide) ⟨pk_in t 6 ht, ?_⟩)
  rw [nI_clamp (show t < 2 ^ 31 by omega), (hb t ht).2]
  exact H
theorem ql_wf {t : Nat} (ht : t < 6) (H : post (a3 t)) : wpX_waitsFor post (st, a1, a2, a3, a4, a5) (nI t) := by
  unfold wpX_waitsFor
  refine ql_isT ht (br_f (by decide) ⟨pk_in t 6 ht, ?_⟩)
  rw [nI_clamp (show t < 2 ^ 31 by omega)]
  exact H
theorem ql_hold {l : Nat} (hl : l < 5) (H : post (a5 l)) : wpX_holder post (st, a1, a2, a3, a4, a5) (nI l) := by
  unfold wpX_holder
  refine ql_isL hl (br_f (by decide) ⟨pk_in l 5 hl, ?_⟩)
  rw [nI_clamp (show l < 2 ^ 31 by omega)]
  exact H
theorem ql_lifted (hb : ql_B a1 b) (hu : ql_B a2 u) (H : ∀ m, ql_M (fun j => b j < u j) 6 m → post (nI m)) : wpX_lifted post (st, a1, a2, a3, a4, a5) := by
  unfold wpX_lifted
  refine pk_loop (fun n i m => wX_lifted_4 post st a1 a2 a3 a4 a5 n (nI m) (nI i)) (fun i m => ql_M (fun j => b j < u j) i m) 6 0 0 (by omega) ql_M0
    (fun n m I => pk_le 6 6 (fun _ => H m I) (fun z => absurd z (by omega)))
    (fun n i m hi I hw => pk_le 6 i (fun z => absurd z (by omega)) (fun _ => ⟨pk_in i 6 hi, pk_in i 6 hi, ?_⟩))
  rw [nI_clamp (show i < 2 ^ 31 by omega), (hu i hi).2, (hb i hi).2]
  have h1 := (hu i hi).1
  have h2 := (hb i hi).1
  exact pk_le (u i) (b i) (fun z => nm_r (ql_b0 m I.1) (nm_r (nI_1 i) (hw m (ql_MN I (by omega))))) (fun z => nm_r (ql_b1 m I.1 i hi) (nm_r (nI_1 i) (hw _ (ql_M1 I hi z))))
theorem ql_running (hu : ql_B a2 u) (hc : ql_C w h a3 a5) (H0 : (∀ s, s < 6 → w s ≠ none) → post (-1)) (H1 : ∀ p, p < 6 → w p = none → (∀ s, s < 6 → w s = none → u s ≤ u p) → post (nI p)) : wpX_running post (st, a1, a2, a3, a4, a5) := by
  unfold wpX_running
  refine pk_loop (fun n i o => wX_running_4 post st a1 a2 a3 a4 a5 n (ql_o o) (nI i)) (fun i (o : Option Nat) => (o = none → ∀ s, s < i → w s ≠ none) ∧ (∀ p, o = some p → p < 6 ∧ w p = none ∧ ∀ s, s < i → w s = none → u s ≤ u p)) 6 0 none (by omega) ⟨fun _ s hs => absurd hs (by omega), fun p e => by simp at e⟩
    (fun n o I => pk_le 6 6 (fun _ => ?_) (fun z => absurd z (by omega)))
    (fun n i o hi I hw => pk_le 6 i (fun z => absurd z (by omega)) (fun _ => ⟨pk_in i 6 hi, ?_⟩))
  · cases o with
    | none => exact H0 (I.1 rfl)
    | some p =>
      obtain ⟨i1, i2, i3⟩ := I.2 p rfl
      exact H1 p i1 i2 i3
  · rw [nI_clamp (show i < 2 ^ 31 by omega)]
    rcases ql_edge hc hi with ⟨e, e3, _⟩ | ⟨l, p, e, _, hl, _, e3, _, _⟩
    · rw [e3]
      refine br_f (by decide) ?_
      cases o with
      | none =>
        refine br_t ql_o_neg (nm_r (nI_1 i) (hw (some i) ⟨fun z => by simp at z, fun p z => ?_⟩))
        injection z with z
        rw [← z]
        refine ⟨hi, e, lt_s (fun s hs es => absurd es (I.1 rfl s hs)) (fun _ => Nat.le_refl _)⟩
      | some p =>
        obtain ⟨i1, i2, i3⟩ := I.2 p rfl
        refine br_f (nI_pos (show p < 2 ^ 31 by omega)) ⟨pk_in i 6 hi, pk_in p 6 i1, ?_⟩
        have h1 := (hu i hi).1
        have h2 := (hu p i1).1
        have e1 : (ql_o (some p)).toNatClampNeg = p := nI_clamp (show p < 2 ^ 31 by omega)
        rw [e1, (hu i hi).2, (hu p i1).2]
        refine pk_le (u i) (u p) (fun z => nm_r (nI_1 i) (hw (some p) ⟨fun y => by simp at y, fun q y => ?_⟩)) (fun z => nm_r (nI_1 i) (hw (some i) ⟨fun y => by simp at y, fun q y => ?_⟩))
        · injection y with y
          rw [← y]
          exact ⟨i1, i2, lt_s i3 (fun _ => z)⟩
        · injection y with y
          rw [← y]
          exact ⟨hi, e, lt_s (fun s hs es => Nat.le_trans (i3 s hs es) (Nat.le_of_lt z)) (fun _ => Nat.le_refl _)⟩
    · rw [e3]
      have ne : w i ≠ none := by rw [e]; simp
      refine br_t (nI_pos' (show l < 2 ^ 31 by omega)) (nm_r (nI_1 i) (hw o ⟨fun z => lt_s (I.1 z) ne, fun p z => ?_⟩))
      obtain ⟨i1, i2, i3⟩ := I.2 p z
      exact ⟨i1, i2, lt_s i3 (fun z => absurd z ne)⟩
theorem ql_dep (hc : ql_C w h a3 a5) (hr : ql_R r w h) (hr5 : ∀ s, s < 6 → r s ≤ 5) {s t : Nat} (hs : s < 6) (ht : t < 6) (H1 : ql_D w h s t → post 1) (H0 : ¬ ql_D w h s t → post 0) : wpX_dependsOn post (st, a1, a2, a3, a4, a5) (nI s) (nI t) := by
  unfold wpX_dependsOn
  refine pk_loop (fun n i c => wX_dependsOn_5 post (nI t) st a1 a2 a3 a4 a5 n (nI c) (nI i)) (fun i c => ql_it w h i s = some c ∧ ∀ k, k < i → ql_it w h (k + 1) s ≠ some t) 6 0 s (by omega) ⟨rfl, fun k hk => absurd hk (by omega)⟩
    (fun n c I => ?_)
    (fun n i c hi I hw => pk_le 6 i (fun z => absurd z (by omega)) (fun _ => ?_))
  · have h1 := (ql_it6 hc hr hs 6 c I.1).2
    have h2 := hr5 s hs
    exact absurd h1 (by omega)
  · obtain ⟨I1, I2⟩ := I
    have hcc := (ql_it6 hc hr hs i c I1).1
    refine ⟨pk_in c 6 hcc, ?_⟩
    rw [nI_clamp (show c < 2 ^ 31 by omega)]
    rcases ql_edge hc hcc with ⟨e, e3, en⟩ | ⟨l, p, e, eh, hl, hp, e3, e5, en⟩
    · rw [e3]
      refine br_t (by decide) (H0 ?_)
      rintro ⟨k, ek⟩
      by_cases g : k < i
      · exact I2 k g ek
      · have e0 : ql_it w h (i + 1) s = none := by rw [ql_itS I1]; exact en
        have e1 := ql_itN e0 (k - i)
        rw [show i + 1 + (k - i) = k + 1 by omega, ek] at e1
        simp at e1
    · rw [e3]
      refine br_f (nI_pos (show l < 2 ^ 31 by omega)) ⟨pk_in c 6 hcc, pk_in l 5 hl, nm_r (e' := nI p) (by rw [nI_clamp (show l < 2 ^ 31 by omega)]; exact e5) ?_⟩
      have e0 : ql_it w h (i + 1) s = some p := by rw [ql_itS I1]; exact en
      refine pk_eq p t (fun z => H1 ⟨i, by rw [e0, z]⟩) (fun z => nm_r (nI_1 i) (hw p ⟨e0, lt_s I2 ?_⟩))
      intro y
      rw [e0] at y
      injection y with y
      exact z y
theorem ql_won (hc : ql_C w h a3 a5) (hr : ql_R r w h) (hr5 : ∀ s, s < 6 → r s ≤ 5) {t : Nat} (ht : t < 6) (H : ∀ m, ql_M (fun j => ql_D w h j t) 6 m → post (nI m)) : wpX_waitingOn post (st, a1, a2, a3, a4, a5) (nI t) := by
  unfold wpX_waitingOn
  exact pk_loop (fun n i m => wX_waitingOn_4 post (nI t) st a1 a2 a3 a4 a5 n (nI m) (nI i)) (fun i m => ql_M (fun j => ql_D w h j t) i m) 6 0 0 (by omega) ql_M0
    (fun n m I => pk_le 6 6 (fun _ => H m I) (fun z => absurd z (by omega)))
    (fun n i m hi I hw => pk_le 6 i (fun z => absurd z (by omega)) (fun _ => ql_isT ht (br_f (by decide) (ql_dep hc hr hr5 hi ht
      (fun d => br_f (by decide) (nm_r (ql_b1 m I.1 i hi) (nm_r (nI_1 i) (hw _ (ql_M1 I hi d)))))
      (fun d => br_t rfl (nm_r (ql_b0 m I.1) (nm_r (nI_1 i) (hw m (ql_MN I d)))))))))
theorem ql_held {t : Nat} (ht : t < 6) (H : ∀ m, ql_M (fun j => a5 j = nI t) 5 m → post (nI m)) : wpX_held post (st, a1, a2, a3, a4, a5) (nI t) := by
  unfold wpX_held
  refine pk_loop (fun n i m => wX_held_4 post (nI t) st a1 a2 a3 a4 a5 n (nI m) (nI i)) (fun i m => ql_M (fun j => a5 j = nI t) i m) 5 0 0 (by omega) ql_M0
    (fun n m I => pk_le 5 5 (fun _ => H m I) (fun z => absurd z (by omega)))
    (fun n i m hi I hw => pk_le 5 i (fun z => absurd z (by omega)) (fun _ => ql_isT ht (br_f (by decide) ⟨pk_in i 5 hi, ?_⟩)))
  rw [nI_clamp (show i < 2 ^ 31 by omega)]
  exact br_c (fun d => nm_r (ql_b1 m I.1 i (by omega)) (nm_r (nI_1 i) (hw _ (ql_M1 I (by omega) d)))) (fun d => nm_r (ql_b0 m I.1) (nm_r (nI_1 i) (hw m (ql_MN I d))))
theorem ql_waiting {l : Nat} (hl : l < 5) (H : ∀ c, c ≤ 6 → (c = 0 ↔ ∀ s, s < 6 → a3 s ≠ nI l) → post (nI c)) : wpX_waiting post (st, a1, a2, a3, a4, a5) (nI l) := by
  unfold wpX_waiting
  refine pk_loop (fun n i c => wX_waiting_4 post (nI l) st a1 a2 a3 a4 a5 n (nI c) (nI i)) (fun i c => c ≤ i ∧ (c = 0 ↔ ∀ s, s < i → a3 s ≠ nI l)) 6 0 0 (by omega) ⟨by omega, fun _ s hs => absurd hs (by omega), fun _ => rfl⟩
    (fun n c I => pk_le 6 6 (fun _ => H c I.1 I.2) (fun z => absurd z (by omega)))
    (fun n i c hi I hw => pk_le 6 i (fun z => absurd z (by omega)) (fun _ => ql_isL hl (br_f (by decide) ⟨pk_in i 6 hi, ?_⟩)))
  rw [nI_clamp (show i < 2 ^ 31 by omega)]
  have e0 : nI c + 0 = nI c := nI_add c 0
  refine br_c (fun d => nm_r (nI_1 c) (nm_r (nI_1 i) (hw (c + 1) ⟨by have := I.1; omega, fun z => absurd z (by omega), fun z => absurd d (z i (by omega))⟩))) (fun d => nm_r e0 (nm_r (nI_1 i) (hw c ⟨by have := I.1; omega, fun z => lt_s (I.2.mp z) d, fun z => I.2.mpr (fun s hs => z s (by omega))⟩)))
theorem ql_44 {J : Int32 → Int32 → Prop} {x1 z : Int32} {q i : Nat} (hq : q < 6) (hi : i < 6) (Hq : z = 0 → ¬ (a2 i = a2 q ∧ ¬ a4 q ≤ a4 i) → J (nI q) (nI (i + 1))) (Hi : (¬ z = 0 ∨ (a2 i = a2 q ∧ ¬ a4 q ≤ a4 i)) → J (nI i) (nI (i + 1))) : wX_bestWaiting_44 post J x1 (nI q) (nI i) z st a1 a2 a3 a4 a5 := by
  unfold wX_bestWaiting_44
  refine br_f (nI_pos (show q < 2 ^ 31 by omega)) ⟨pk_in i 6 hi, pk_in q 6 hq, ?_⟩
  rw [nI_clamp (show i < 2 ^ 31 by omega), nI_clamp (show q < 2 ^ 31 by omega)]
  have h84 : ¬ (a2 i = a2 q ∧ ¬ a4 q ≤ a4 i) → wX_bestWaiting_84 post J x1 (nI q) (nI i) z st a1 a2 a3 a4 a5 := by
    intro g
    unfold wX_bestWaiting_84 wX_bestWaiting_85
    exact br_c (fun y => br_t rfl (nm_r (nI_1 i) (Hq y g))) (fun y => nm_r (nI_1 i) (Hi (Or.inl y)))
  refine br_c (fun e => ⟨pk_in i 6 hi, pk_in q 6 hq, br_c (fun g => h84 (fun y => y.2 g)) (fun g => ?_)⟩) (fun e => h84 (fun y => e y.1))
  unfold wX_bestWaiting_85
  exact br_c (fun y => br_f (by decide) (nm_r (nI_1 i) (Hi (Or.inr ⟨e, g⟩)))) (fun y => nm_r (nI_1 i) (Hi (Or.inl y)))
theorem ql_best {l : Int32} (H : post (ql_o (ql_bw a2 a3 a4 l 6))) : wpX_bestWaiting post (st, a1, a2, a3, a4, a5) l := by
  unfold wpX_bestWaiting
  refine pk_loop (σ := Unit) (fun n i _ => wX_bestWaiting_4 post l st a1 a2 a3 a4 a5 n (ql_o (ql_bw a2 a3 a4 l i)) (nI i)) (fun _ _ => True) 6 0 () (by omega) trivial
    (fun n _ _ => pk_le 6 6 (fun _ => H) (fun z => absurd z (by omega)))
    (fun n i _ hi _ hw => pk_le 6 i (fun z => absurd z (by omega)) (fun _ => ⟨pk_in i 6 hi, ?_⟩))
  have hw' : wX_bestWaiting_4 post l st a1 a2 a3 a4 a5 n (ql_o (ql_bw a2 a3 a4 l (i + 1))) (nI (i + 1)) := hw () trivial
  rw [nI_clamp (show i < 2 ^ 31 by omega)]
  cases e : ql_bw a2 a3 a4 l i with
  | none =>
    rw [ql_bwN e] at hw'
    refine br_c (fun g => br_t ql_o_neg ?_) (fun g => ?_)
    · rw [if_pos g] at hw'
      unfold wX_bestWaiting_39 wX_bestWaiting_44 wX_bestWaiting_84 wX_bestWaiting_85
      exact br_t ql_o_neg (br_f (by decide) (nm_r (nI_1 i) hw'))
    · rw [if_neg g] at hw'
      exact nm_r (nI_1 i) hw'
  | some q =>
    rw [ql_bwS e] at hw'
    have hq : q < 6 := Nat.lt_trans (ql_bw_some i q e).1 hi
    have eq : (ql_o (some q)).toNatClampNeg = q := nI_clamp (show q < 2 ^ 31 by omega)
    refine br_c (fun g => br_f (nI_pos (show q < 2 ^ 31 by omega)) ⟨pk_in i 6 hi, pk_in q 6 hq, ?_⟩) (fun g => ?_)
    · rw [eq]
      refine br_c (fun le => ql_44 hq hi (fun _ y => ?_) (fun y => ?_)) (fun le => ?_)
      · rw [if_neg (fun x => x.2.elim (fun x => x le) y)] at hw'
        exact hw'
      · rw [if_pos ⟨g, Or.inr (y.elim (fun x => absurd rfl x) (fun x => x))⟩] at hw'
        exact hw'
      · unfold wX_bestWaiting_39
        refine ql_44 hq hi (fun x _ => absurd x (by decide)) (fun _ => ?_)
        rw [if_pos ⟨g, Or.inl le⟩] at hw'
        exact hw'
    · rw [if_neg (fun x => g x.1)] at hw'
      exact nm_r (nI_1 i) hw'
theorem ql_next {l : Nat} (hl : l < 5) (H : post (ql_o (ql_bw a2 a3 a4 (nI l) 6))) : wpX_nextFor post (st, a1, a2, a3, a4, a5) (nI l) := by
  unfold wpX_nextFor
  exact ql_isL hl (br_f (by decide) (ql_best H))
end
end
section
/-! lent and refresh -/
section
variable {st : Int32} {a1 a2 a3 a4 a5 : Nat → Int32} {b u r : Nat → Nat} {w h : Nat → Option Nat}
theorem ql_lent {post : Int32 → Prop} (hb : ql_B a1 b) (hu : ql_B a2 u) (hc : ql_C w h a3 a5) {t : Nat} (ht : t < 6) (H : ∀ m, m < 10 → b t ≤ m → (∀ s, s < 6 → ql_nx w h s = some t → u s ≤ m) → post (nI m)) : wpX_lent post (st, a1, a2, a3, a4, a5) (nI t) := by
  unfold wpX_lent
  refine ⟨pk_in t 6 ht, nm_r (e' := nI (b t)) (by rw [nI_clamp (show t < 2 ^ 31 by omega)]; exact (hb t ht).2) ?_⟩
  refine pk_loop (fun n i m => wX_lent_9 post (nI t) st a1 a2 a3 a4 a5 n (nI m) (nI i)) (fun i m => m < 10 ∧ b t ≤ m ∧ ∀ s, s < i → ql_nx w h s = some t → u s ≤ m) 6 0 (b t) (by omega) ⟨(hb t ht).1, Nat.le_refl _, fun s hs => absurd hs (by omega)⟩
    (fun n m I => pk_le 6 6 (fun _ => H m I.1 I.2.1 I.2.2) (fun z => absurd z (by omega)))
    (fun n i m hi I hw => pk_le 6 i (fun z => absurd z (by omega)) (fun _ => ⟨pk_in i 6 hi, ?_⟩))
  obtain ⟨I1, I2, I3⟩ := I
  have h43 : ql_nx w h i ≠ some t → wX_lent_43 post (wX_lent_9 post (nI t) st a1 a2 a3 a4 a5 n) (nI t) (nI m) (nI i) st a1 a2 a3 a4 a5 := by
    intro g
    unfold wX_lent_43 wX_lent_44
    exact br_t rfl (nm_r (nI_1 i) (hw m ⟨I1, I2, lt_s I3 (fun z => absurd z g)⟩))
  rw [nI_clamp (show i < 2 ^ 31 by omega)]
  rcases ql_edge hc hi with ⟨e, e3, en⟩ | ⟨l, p, e, eh, hl, hp, e3, e5, en⟩
  · rw [e3]
    exact br_t (by decide) (h43 (by rw [en]; simp))
  · rw [e3, nI_clamp (show l < 2 ^ 31 by omega), e5]
    refine br_f (nI_pos (show l < 2 ^ 31 by omega)) ⟨pk_in i 6 hi, pk_in l 5 hl, pk_eq p t (fun z => ?_) (fun z => h43 (by rw [en]; intro y; injection y with y; exact z y))⟩
    unfold wX_lent_44
    refine br_f (by decide) ⟨pk_in i 6 hi, ?_⟩
    have h1 := (hu i hi).1
    rw [nI_clamp (show i < 2 ^ 31 by omega), (hu i hi).2]
    exact pk_le (u i) m (fun y => nm_r (nI_1 i) (hw m ⟨I1, I2, lt_s I3 (fun _ => y)⟩)) (fun y => ⟨pk_in i 6 hi, nm_e (nm_r (nI_1 i) (hw (u i) ⟨h1, by omega, lt_s (fun s hs es => Nat.le_trans (I3 s hs es) (Nat.le_of_lt y)) (fun _ => Nat.le_refl _)⟩))⟩)
/-- one thread's urgency brought up to date -/
theorem ql_Kself (hr : ql_R r w h) {p m : Nat} (hp : p < 6) (hm : b p ≤ m) (hs : ∀ s, s < 6 → ql_nx w h s = some p → u s ≤ m) : ql_K b (va_up u p m) w h p := by
  refine ⟨by rw [ql_us]; exact hm, fun s h6 e => ?_⟩
  have ne : s ≠ p := by
    intro z
    rw [z] at e
    exact ql_noself hr hp e
  rw [ql_us, ql_un ne]
  exact hs s h6 e
theorem ql_Kother {p m x : Nat} (hx : x ≠ p) (hn : ql_nx w h p ≠ some x) (hk : ql_K b u w h x) : ql_K b (va_up u p m) w h x := by
  refine ⟨by rw [ql_un hx]; exact hk.1, fun s h6 e => ?_⟩
  have ne : s ≠ p := by
    intro z
    rw [z] at e
    exact hn e
  rw [ql_un hx, ql_un ne]
  exact hk.2 s h6 e
theorem ql_upid {p : Nat} : va_up u p (u p) = u := by
  funext j
  by_cases e : j = p
  · rw [e, ql_us]
  · rw [ql_un e]
theorem ql_refresh {post : St1 → Prop} (E : Nat → Prop) (hb : ql_B a1 b) (hu : ql_B a2 u) (hc : ql_C w h a3 a5) (hr : ∃ r, ql_R r w h) {t : Nat} (ht : t < 6) (hk : ∀ x, x < 6 → ¬ E x → x ≠ t → ql_K b u w h x) (H : ∀ a2' u', ql_B a2' u' → (∀ x, x < 6 → ¬ E x → ql_K b u' w h x) → post (st, a1, a2', a3, a4, a5)) : wpX_refresh post (st, a1, a2, a3, a4, a5) (nI t) := by
  obtain ⟨r, hr, hr5⟩ := ql_rank hc hr
  unfold wpX_refresh
  refine pk_loop (fun n i (s : Option Nat × (Nat → Int32)) => wX_refresh_4 post st n (ql_o s.1) (nI i) a1 s.2 a3 a4 a5) (fun i (s : Option Nat × (Nat → Int32)) => ∃ u, ql_B s.2 u ∧ (∀ p, s.1 = some p → p < 6 ∧ r p + i ≤ 5) ∧ (∀ x, x < 6 → ¬ E x → s.1 ≠ some x → ql_K b u w h x)) 6 0 (some t, a2) (by omega) ⟨u, hu, fun p e => ?_, fun x hx hE e => hk x hx hE (fun z => e (by rw [z]))⟩
    (fun n s I => ?_)
    (fun n i s hi I hw => ?_)
  · injection e with e
    rw [← e]
    exact ⟨ht, hr5 t ht⟩
  · obtain ⟨u, hu, h1, h2⟩ := I
    exact pk_le 6 6 (fun _ => H s.2 u hu (fun x hx hE => h2 x hx hE (fun z => by have := (h1 x z).2; omega))) (fun z => absurd z (by omega))
  · obtain ⟨o, a⟩ := s
    obtain ⟨u, hu, h1, h2⟩ := I
    dsimp only at hu h1 h2 ⊢
    cases o with
    | none => exact pk_le 6 i (fun z => absurd z (by omega)) (fun _ => br_t ql_o_neg (H a u hu (fun x hx hE => h2 x hx hE (by simp))))
    | some p =>
      obtain ⟨hp, hpr⟩ := h1 p rfl
      refine pk_le 6 i (fun z => absurd z (by omega)) (fun _ => br_f (nI_pos (show p < 2 ^ 31 by omega)) (ql_lent hb hu hc hp (fun m hm hbm hsm => ⟨pk_in p 6 hp, ?_⟩)))
      have ec : (ql_o (some p)).toNatClampNeg = p := nI_clamp (show p < 2 ^ 31 by omega)
      have hup := (hu p hp).1
      have eu : upd a (ql_o (some p)).toNatClampNeg (nI m).toInt8.toInt32 = upd a p (nI m) := by rw [ec, ql_byte m hm]
      have B' : ql_B (upd a p (nI m)) (va_up u p m) := ql_Bup hu hm
      have K0 : ∀ x, x < 6 → ¬ E x → x = p ∨ ql_nx w h p ≠ some x → ql_K b (va_up u p m) w h x := by
        intro x hx hE hxp
        by_cases e : x = p
        · rw [e]
          exact ql_Kself hr hp hbm hsm
        · exact ql_Kother e (hxp.elim (fun z => absurd z e) (fun z => z)) (h2 x hx hE (fun z => by injection z with z; exact e z.symm))
      rw [ec, (hu p hp).2]
      refine pk_eq m (u p) (fun z => ?_) (fun z => ?_)
      · unfold wX_refresh_37
        refine ⟨pk_in p 6 hp, nm_r eu (br_f (by decide) (nm_r (nI_1 i) (hw (none, upd a p (nI m)) ⟨va_up u p m, B', fun q e => by simp at e, fun x hx hE _ => ?_⟩)))⟩
        by_cases e : x = p
        · exact K0 x hx hE (Or.inl e)
        · rw [z, ql_upid]
          exact h2 x hx hE (fun z => by injection z with z; exact e z.symm)
      · unfold wX_refresh_37
        refine ⟨pk_in p 6 hp, nm_r eu (br_t rfl ⟨pk_in p 6 hp, ?_⟩)⟩
        rw [ec]
        rcases ql_edge hc hp with ⟨e, e3, en⟩ | ⟨l, q, e, eh, hl, hq, e3, e5, en⟩
        · rw [e3]
          refine br_f (by decide) (nm_r (nI_1 i) (hw (none, upd a p (nI m)) ⟨va_up u p m, B', fun q e => by simp at e, fun x hx hE _ => K0 x hx hE (Or.inr ?_)⟩))
          rw [en]
          simp
        · rw [e3]
          refine br_t (nI_pos' (show l < 2 ^ 31 by omega)) ⟨pk_in p 6 hp, pk_in l 5 hl, nm_r (e' := nI q) (by rw [nI_clamp (show l < 2 ^ 31 by omega)]; exact e5) (nm_r (nI_1 i) (hw (some q, upd a p (nI m)) ⟨va_up u p m, B', fun q' e => ?_, fun x hx hE e => K0 x hx hE (Or.inr (by rw [en]; exact e))⟩))⟩
          injection e with e
          rw [← e]
          have := hr p q hp en
          exact ⟨hq, by omega⟩
end
end
section
/-! the calls that change the state -/
section
variable {st : Int32} {a1 a2 a3 a4 a5 : Nat → Int32} {b u r : Nat → Nat} {w h : Nat → Option Nat}
theorem ql_m1 {n : Nat} (hn : n < 2 ^ 31) : ¬ (-1 : Int32) = nI n := by
  intro e
  have h1 := nI_pos hn
  rw [← e] at h1
  exact h1 (by decide)
theorem ql_oi {o : Option Nat} {n : Nat} (e : ql_o o = nI n) (hn : n < 2 ^ 31) (ho : ∀ m, o = some m → m < 2 ^ 31) : o = some n := by
  cases o with
  | none => exact absurd e (ql_m1 hn)
  | some m =>
    have e' : nI m = nI n := e
    rw [(nI_eq (ho m rfl) hn).mp e']
theorem ql_w_of (hc : ql_C w h a3 a5) {s l : Nat} (hs : s < 6) (hl : l < 5) (e : a3 s = nI l) : w s = some l := by
  have h3 := hc.1 s hs
  rw [h3.1] at e
  exact ql_oi e (by omega) (fun m z => by have := (h3.2 m z).1; omega)
theorem ql_w_to (hc : ql_C w h a3 a5) {s l : Nat} (hs : s < 6) (e : w s = some l) : a3 s = nI l := by
  rw [(hc.1 s hs).1, e]
  rfl
theorem ql_h_of (hc : ql_C w h a3 a5) {l p : Nat} (hl : l < 5) (hp : p < 6) (e : a5 l = nI p) : h l = some p := by
  have h5 := hc.2 l hl
  rw [h5.1] at e
  exact ql_oi e (by omega) (fun m z => by have := h5.2 m z; omega)
theorem ql_CW (hc : ql_C w h a3 a5) (t : Nat) (o : Option Nat) (ho : ∀ l, o = some l → l < 5 ∧ ∃ p, h l = some p) : ql_C (va_up w t o) h (upd a3 t (ql_o o)) a5 := by
  refine ⟨fun s hs => ?_, hc.2⟩
  by_cases e : s = t
  · rw [e, ql_us, pk_us]
    exact ⟨rfl, ho⟩
  · rw [ql_un e, pk_un e]
    exact hc.1 s hs
theorem ql_CH (hc : ql_C w h a3 a5) (l : Nat) (o : Option Nat) (ho : ∀ p, o = some p → p < 6) (hn : o = none → ∀ s, s < 6 → w s ≠ some l) : ql_C w (va_up h l o) a3 (upd a5 l (ql_o o)) := by
  refine ⟨fun s hs => ⟨(hc.1 s hs).1, fun l' e' => ?_⟩, fun l' hl' => ?_⟩
  · obtain ⟨h1, p, h2⟩ := (hc.1 s hs).2 l' e'
    refine ⟨h1, ?_⟩
    by_cases e : l' = l
    · rw [e, ql_us]
      cases o with
      | none => exact absurd (by rw [e', e]) (hn rfl s hs)
      | some q => exact ⟨q, rfl⟩
    · rw [ql_un e]
      exact ⟨p, h2⟩
  · by_cases e : l' = l
    · rw [e, ql_us, pk_us]
      exact ⟨rfl, ho⟩
    · rw [ql_un e, pk_un e]
      exact hc.2 l' hl'
theorem ql_setBase {post : Int32 → St1 → Prop} (V : ql_V a1 a2 a3 a5) {t v : Nat} (ht : t < 6) (hv : v < 10) (H : ∀ a1' a2', ql_V a1' a2' a3 a5 → post 1 (st, a1', a2', a3, a4, a5)) : wpX_setBase post (st, a1, a2, a3, a4, a5) (nI t) (nI v) := by
  obtain ⟨b, u, w, h, hb, hu, hc, hr, hk⟩ := V
  unfold wpX_setBase
  refine ql_isT ht (br_f (by decide) (br_f (nI_pos (show v < 2 ^ 31 by omega)) (br_t (nI_le (b := 9) (by omega) (by decide)) ⟨pk_in t 6 ht, nm_r (e' := upd a1 t (nI v)) (by rw [nI_clamp (show t < 2 ^ 31 by omega), ql_byte v hv]) ?_⟩)))
  refine ql_refresh (fun _ => False) (ql_Bup hb hv) hu hc hr ht (fun x hx _ ne => ⟨by rw [ql_un ne]; exact (hk x hx).1, (hk x hx).2⟩) (fun a2' u' B' K' => H _ _ ⟨_, u', w, h, ql_Bup hb hv, B', hc, hr, fun x hx => K' x hx (fun z => z)⟩)
theorem ql_giveUp {post : Int32 → St1 → Prop} (V : ql_V a1 a2 a3 a5) {t : Nat} (ht : t < 6) (H : ∀ x a2' a3', ql_V a1 a2' a3' a5 → post x (st, a1, a2', a3', a4, a5)) : wpX_giveUp post (st, a1, a2, a3, a4, a5) (nI t) := by
  have V0 := V
  obtain ⟨b, u, w, h, hb, hu, hc, ⟨r, hr⟩, hk⟩ := V
  unfold wpX_giveUp
  refine ql_isT ht (br_f (by decide) ⟨pk_in t 6 ht, ?_⟩)
  rw [nI_clamp (show t < 2 ^ 31 by omega)]
  rcases ql_edge hc ht with ⟨e, e3, en⟩ | ⟨l, p, e, eh, hl, hp, e3, e5, en⟩
  · rw [e3]
    exact br_f (by decide) (H 0 a2 a3 V0)
  · rw [e3, nI_clamp (show l < 2 ^ 31 by omega), e5]
    have C' : ql_C (va_up w t none) h (upd a3 t (-1)) a5 := ql_CW hc t none (fun l z => by simp at z)
    have R' : ql_R r (va_up w t none) h := fun s q hs z => hr s q hs (ql_nx_drop z).2
    have K' : ∀ x, x < 6 → ql_K b u (va_up w t none) h x := fun x hx => ⟨(hk x hx).1, fun s hs z => (hk x hx).2 s hs (ql_nx_drop z).2⟩
    refine br_t (nI_pos' (show l < 2 ^ 31 by omega)) ⟨pk_in t 6 ht, pk_in l 5 hl, nm_e ⟨pk_in t 6 ht, nm_e ?_⟩⟩
    exact ql_refresh (fun _ => False) hb hu C' ⟨r, R'⟩ hp (fun x hx _ _ => K' x hx) (fun a2' u' B' K2 => H _ _ _ ⟨b, u', _, h, hb, B', C', ⟨r, R'⟩, fun x hx => K2 x hx (fun z => z)⟩)
theorem ql_take {post : Int32 → St1 → Prop} (V : ql_V a1 a2 a3 a5) {t l : Nat} (ht : t < 6) (hl : l < 5) (H : ∀ x st' a2' a3' a4' a5', ql_V a1 a2' a3' a5' → post x (st', a1, a2', a3', a4', a5')) : wpX_take post (st, a1, a2, a3, a4, a5) (nI t) (nI l) := by
  have V0 := V
  obtain ⟨b, u, w, h, hb, hu, hc, hr0, hk⟩ := V
  obtain ⟨r, hr, hr5⟩ := ql_rank hc hr0
  unfold wpX_take
  refine ql_isT ht (br_f (by decide) (ql_isL hl (br_f (by decide) ⟨pk_in t 6 ht, ?_⟩)))
  rw [nI_clamp (show t < 2 ^ 31 by omega), nI_clamp (show l < 2 ^ 31 by omega)]
  rcases ql_edge hc ht with ⟨e, e3, en⟩ | ⟨l', p, e, eh, hl', hp, e3, e5, en⟩
  · rw [e3]
    refine br_f (by decide) ⟨pk_in l 5 hl, ?_⟩
    have h5 := hc.2 l hl
    cases eh : h l with
    | none =>
      rw [eh] at h5
      have e5 : a5 l = -1 := h5.1
      rw [e5]
      refine br_f (ql_m1 (by omega)) ⟨pk_in l 5 hl, nm_e (br_f (by decide) ⟨pk_in l 5 hl, nm_r (e' := upd a5 l (nI t)) (by rw [ql_byte t (by omega)]) (H 0 st a2 a3 a4 _ ?_)⟩)⟩
      have nw : ∀ s, s < 6 → w s ≠ some l := by
        intro s hs z
        obtain ⟨_, q, hq⟩ := (hc.1 s hs).2 l z
        rw [eh] at hq
        simp at hq
      have C' : ql_C w (va_up h l (some t)) a3 (upd a5 l (nI t)) := ql_CH hc l (some t) (fun p z => by injection z with z; omega) (fun z => by simp at z)
      refine ⟨b, u, w, _, hb, hu, C', ⟨r, fun s q hs z => ?_⟩, fun x hx => ⟨(hk x hx).1, fun s hs z => ?_⟩⟩
      · rw [ql_nx_lock (nw s hs)] at z
        exact hr s q hs z
      · rw [ql_nx_lock (nw s hs)] at z
        exact (hk x hx).2 s hs z
    | some p =>
      rw [eh] at h5
      have e5 : a5 l = nI p := h5.1
      have hp : p < 6 := h5.2 p rfl
      rw [e5]
      refine pk_eq p t (fun z => H (-1) st a2 a3 a4 a5 V0) (fun z => ⟨pk_in l 5 hl, nm_e (br_t (nI_pos' (show p < 2 ^ 31 by omega)) (ql_dep hc hr hr5 hp ht (fun d => br_f (by decide) (H (-2) st a2 a3 a4 a5 V0)) (fun d => br_t rfl ⟨pk_in t 6 ht, nm_r (e' := upd a3 t (nI l)) (by rw [ql_byte l (by omega)]) ⟨pk_in t 6 ht, nm_e (nm_e ?_)⟩⟩)))⟩)
      have C' : ql_C (va_up w t (some l)) h (upd a3 t (nI l)) a5 := ql_CW hc t (some l) (fun l' y => by injection y with y; rw [← y]; exact ⟨hl, p, eh⟩)
      have R' := ql_acy_add hr hr5 eh hp z d
      refine ql_refresh (fun _ => False) hb hu C' R' hp (fun x hx _ ne => ⟨(hk x hx).1, fun s hs y => (hk x hx).2 s hs ?_⟩) (fun a2' u' B' K2 => H _ _ _ _ _ _ ⟨b, u', _, h, hb, B', C', R', fun x hx => K2 x hx (fun z => z)⟩)
      by_cases est : s = t
      · rw [ql_nxI (l := l) (by rw [est]; exact ql_us) eh] at y
        injection y with y
        exact absurd y.symm ne
      · rw [← y]
        unfold ql_nx
        rw [ql_un est]
  · rw [e3]
    exact br_t (nI_pos' (show l' < 2 ^ 31 by omega)) (H (-1) st a2 a3 a4 a5 V0)
theorem ql_give {post : Int32 → St1 → Prop} (V : ql_V a1 a2 a3 a5) {t l : Nat} (ht : t < 6) (hl : l < 5) (H : ∀ x a2' a3' a5', (x = -2 ∨ x = ql_o (ql_bw a2 a3 a4 (nI l) 6)) → ql_V a1 a2' a3' a5' → post x (st, a1, a2', a3', a4, a5')) : wpX_give post (st, a1, a2, a3, a4, a5) (nI t) (nI l) := by
  have V0 := V
  obtain ⟨b, u, w, h, hb, hu, hc, ⟨r, hr⟩, hk⟩ := V
  have H2 : post (-2) (st, a1, a2, a3, a4, a5) := H (-2) a2 a3 a5 (Or.inl rfl) V0
  unfold wpX_give
  refine ql_isT ht (br_f (by decide) (ql_isL hl (br_f (by decide) ⟨pk_in t 6 ht, ?_⟩)))
  rw [nI_clamp (show t < 2 ^ 31 by omega), nI_clamp (show l < 2 ^ 31 by omega)]
  rcases ql_edge hc ht with ⟨e, e3, en⟩ | ⟨l', p, e, eh, hl', hp, e3, e5, en⟩
  · rw [e3]
    refine br_f (by decide) ⟨pk_in l 5 hl, br_c (fun e5 => ql_best ⟨pk_in l 5 hl, ?_⟩) (fun _ => H2)⟩
    have eh : h l = some t := ql_h_of hc hl ht e5
    have hq : ∀ q, ql_bw a2 a3 a4 (nI l) 6 = some q → q < 6 ∧ a3 q = nI l := ql_bw_some 6
    have hn : ql_bw a2 a3 a4 (nI l) 6 = none → ∀ s, s < 6 → a3 s ≠ nI l := ql_bw_none 6
    have HB : ∀ a2' a3' a5', ql_V a1 a2' a3' a5' → post (ql_o (ql_bw a2 a3 a4 (nI l) 6)) (st, a1, a2', a3', a4, a5') := fun a2' a3' a5' v => H _ a2' a3' a5' (Or.inr rfl) v
    refine nm_r (e' := upd a5 l (ql_o (ql_bw a2 a3 a4 (nI l) 6))) (by rw [ql_byteO (fun q z => (hq q z).1)]) ?_
    cases eo : ql_bw a2 a3 a4 (nI l) 6 with
    | none =>
      rw [eo] at HB
      have nw : ∀ s, s < 6 → w s ≠ some l := fun s hs z => hn eo s hs (ql_w_to hc hs z)
      have C' : ql_C w (va_up h l none) a3 (upd a5 l (ql_o none)) := ql_CH hc l none (fun p z => by simp at z) (fun _ => nw)
      have R' : ql_R r w (va_up h l none) := by
        intro s q hs z
        rw [ql_nx_lock (nw s hs)] at z
        exact hr s q hs z
      refine br_t ql_o_neg ?_
      unfold wX_give_66
      refine ql_refresh (fun _ => False) hb hu C' ⟨r, R'⟩ ht (fun x hx _ _ => ⟨(hk x hx).1, fun s hs z => ?_⟩) (fun a2' u' B' K2 => HB _ _ _ ⟨b, u', w, _, hb, B', C', ⟨r, R'⟩, fun x hx => K2 x hx (fun z => z)⟩)
      rw [ql_nx_lock (nw s hs)] at z
      exact (hk x hx).2 s hs z
    | some q =>
      rw [eo] at HB
      obtain ⟨q6, q3⟩ := hq q eo
      have C1 : ql_C (va_up w q none) h (upd a3 q (-1)) a5 := ql_CW hc q none (fun l z => by simp at z)
      have C' : ql_C (va_up w q none) (va_up h l (some q)) (upd a3 q (-1)) (upd a5 l (ql_o (some q))) := ql_CH C1 l (some q) (fun p z => by injection z with z; omega) (fun z => by simp at z)
      have R' : ∃ r, ql_R r (va_up w q none) (va_up h l (some q)) := ⟨_, ql_acy_give hr⟩
      have ec : (ql_o (some q)).toNatClampNeg = q := nI_clamp (show q < 2 ^ 31 by omega)
      refine br_f (nI_pos (show q < 2 ^ 31 by omega)) ⟨pk_in q 6 q6, nm_r (e' := upd a3 q (-1)) (by rw [ec]) ?_⟩
      refine ql_refresh (fun x => x = t) hb hu C' R' q6 (fun x hx hE ne => ⟨(hk x hx).1, fun s hs z => ?_⟩) (fun a2' u' B' K2 => ?_)
      · exact (hk x hx).2 s hs ((ql_nx_give z).2.elim (fun y => absurd y ne) (fun y => y))
      · unfold wX_give_66
        exact ql_refresh (fun _ => False) hb B' C' R' ht (fun x hx _ ne => K2 x hx ne) (fun a2'' u'' B'' K3 => HB _ _ _ ⟨b, u'', _, _, hb, B'', C', R', fun x hx => K3 x hx (fun z => z)⟩)
  · rw [e3]
    exact br_t (nI_pos' (show l' < 2 ^ 31 by omega)) H2
theorem ql_fill {s : Nat → Int32} {i : Nat} (hI : ∀ j, j < i → s j = -1) : ∀ j, j < i + 1 → upd s i (-1) j = -1 := by
  intro j hj
  by_cases e : j = i
  · rw [e, pk_us]
  · rw [pk_un e]
    exact hI j (by omega)
theorem ql_init66 {post : St1 → Prop} {mc ms kc ks : Nat} {f : Int32} {c1 c2 c3 c4 c5 : Nat → Int32} (H : ∀ a5, (∀ j, j < 5 → a5 j = -1) → post (f, c1, c2, c3, c4, a5)) : ∃ n, wX_init_66 post mc ms kc ks f n 0 c1 c2 c3 c4 c5 := by
  refine pk_loop (fun n i s => wX_init_66 post mc ms kc ks f n (nI i) c1 c2 c3 c4 s) (fun i s => ∀ j, j < i → s j = -1) 5 0 c5 (by omega) (fun j hj => absurd hj (by omega))
    (fun n s I => pk_le 5 5 (fun _ => H s I) (fun z => absurd z (by omega)))
    (fun n i s hi I hw => pk_le 5 i (fun z => absurd z (by omega)) (fun _ => ⟨pk_in i 5 hi, nm_r (e' := upd s i (-1)) (by rw [nI_clamp (show i < 2 ^ 31 by omega)]) (nm_r (nI_1 i) (hw _ (ql_fill I)))⟩))
theorem ql_init45 {post : St1 → Prop} {mc ms kc ks : Nat} {f : Int32} {c1 c2 c3 c4 c5 : Nat → Int32} (H : ∀ a3 a5, (∀ j, j < 6 → a3 j = -1) → (∀ j, j < 5 → a5 j = -1) → post (f, c1, c2, a3, c4, a5)) : ∃ n, wX_init_45 post mc ms kc ks f n 0 c1 c2 c3 c4 c5 := by
  refine pk_loop (fun n i s => wX_init_45 post mc ms kc ks f n (nI i) c1 c2 s c4 c5) (fun i s => ∀ j, j < i → s j = -1) 6 0 c3 (by omega) (fun j hj => absurd hj (by omega))
    (fun n s I => pk_le 6 6 (fun _ => ql_init66 (fun a5 h5 => H s a5 I h5)) (fun z => absurd z (by omega)))
    (fun n i s hi I hw => pk_le 6 i (fun z => absurd z (by omega)) (fun _ => ⟨pk_in i 6 hi, nm_r (e' := upd s i (-1)) (by rw [nI_clamp (show i < 2 ^ 31 by omega)]) (nm_r (nI_1 i) (hw _ (ql_fill I)))⟩))
theorem ql_V0 (h3 : ∀ j, j < 6 → a3 j = -1) (h5 : ∀ j, j < 5 → a5 j = -1) : ql_V (fun _ => 0) (fun _ => 0) a3 a5 := by
  refine ⟨fun _ => 0, fun _ => 0, fun _ => none, fun _ => none, fun t _ => ⟨Nat.zero_lt_succ 9, rfl⟩, fun t _ => ⟨Nat.zero_lt_succ 9, rfl⟩, ⟨fun t ht => ⟨h3 t ht, fun l z => by simp at z⟩, fun l hl => ⟨h5 l hl, fun p z => by simp at z⟩⟩, ⟨fun _ => 0, fun s p _ z => ?_⟩, fun x _ => ⟨Nat.le_refl _, fun s _ _ => Nat.le_refl _⟩⟩
  rw [ql_nxN rfl] at z
  simp at z
theorem ql_init {post : St1 → Prop} {f : Int32} (H : ∀ a1 a2 a3 a4 a5, ql_V a1 a2 a3 a5 → post (f, a1, a2, a3, a4, a5)) : wpX_init post 5 29 f := by
  unfold wpX_init
  exact ⟨by decide, by decide, by decide, by decide, by decide, by decide, by decide, by decide, by decide, by decide, ql_init45 (fun a3 a5 h3 h5 => H _ _ a3 _ a5 (ql_V0 h3 h5))⟩
end
end
section
/-! the law's two checks -/
section
variable {post : Int32 → Prop} {st : Int32} {a1 a2 a3 a4 a5 : Nat → Int32}
theorem ql_threads (V : ql_V a1 a2 a3 a5) (H : post 1) : wpL_threads post (st, a1, a2, a3, a4, a5) := by
  obtain ⟨b, u, w, h, hb, hu, hc, hr0, hk⟩ := V
  obtain ⟨r, hr, hr5⟩ := ql_rank hc hr0
  obtain ⟨f, hf, ef⟩ := ql_free hc hr
  unfold wpL_threads
  refine ql_lifted hb hu (fun M hM => ql_running hu hc (fun z => absurd ef (z f hf)) (fun p hp ep hmax => ?_))
  refine pk_loop (fun n i x => wL_threads_15 post (nI M) (nI p) st a1 a2 a3 a4 a5 n (nI x) (nI i)) (fun i x => x ≤ 1 ∧ (x = 0 → ∀ s, s < i → w s ≠ none)) 6 0 0 (by omega) ⟨by omega, fun _ s hs => absurd hs (by omega)⟩
    (fun n x I => ?_)
    (fun n i x hi I hw => ?_)
  · obtain ⟨I1, I2⟩ := I
    have e3 : a3 p = -1 := by
      rw [(hc.1 p hp).1, ep]
      rfl
    exact pk_le 6 6 (fun _ => pk_eq x 0 (fun z => absurd ef (I2 z f hf)) (fun _ => ql_wf hp (br_t e3 H))) (fun z => absurd z (by omega))
  · obtain ⟨I1, I2⟩ := I
    have h1 := (hu i hi).1
    have h2 := (hb i hi).1
    have h3 := (hu p hp).1
    have T73 : ∀ z : Int32, wL_threads_73 post (wL_threads_15 post (nI M) (nI p) st a1 a2 a3 a4 a5 n) (nI M) (nI p) (nI x) (nI i) (nI (u i)) (a3 i) z z st a1 a2 a3 a4 a5 := by
      intro z
      unfold wL_threads_73
      refine br_t rfl (ql_base hb hi (pk_lt (u i) (b i) (fun y => absurd (hk i hi).1 (by omega)) (fun _ => ql_won hc hr hr5 hi (fun m hm => br_f (by rw [ql_Mf hm (by omega) hi (ql_irr hc hr hi)]; decide) ?_))))
      rcases ql_edge hc hi with ⟨e, e3, en⟩ | ⟨l, q, e, eh, hl, hq, e3, e5, en⟩
      · rw [e3]
        exact br_t (by decide) (br_f (nI_pos (show p < 2 ^ 31 by omega)) (ql_urg hu hp (pk_le (u i) (u p) (fun _ => nm_r (nI_1 i) (hw 1 ⟨by omega, fun y => absurd y (by omega)⟩)) (fun y => absurd (hmax i hi e) (by omega)))))
      · rw [e3]
        refine br_f (nI_pos (show l < 2 ^ 31 by omega)) (ql_hold hl ?_)
        rw [e5]
        have h4 := (hu q hq).1
        have h5 := (hk q hq).2 i hi en
        refine br_f (nI_pos (show q < 2 ^ 31 by omega)) (pk_eq q i (fun y => ?_) (fun _ => ql_urg hu hq (pk_lt (u q) (u i) (fun y => absurd h5 (by omega)) (fun _ => ql_won hc hr hr5 hq (fun m2 hm2 => br_f (by rw [ql_Mt hm2 (by omega) hi (ql_dir en)]; decide) (nm_r (nI_1 i) (hw x ⟨I1, fun y => lt_s (I2 y) (by rw [e]; simp)⟩)))))))
        rw [y] at en
        exact absurd en (ql_noself hr hi)
    refine pk_le 6 i (fun z => absurd z (by omega)) (fun _ => ql_urg hu hi (ql_wf hi ?_))
    by_cases g : b i < u i
    · refine br_t (ql_Mt hM (by omega) hi g) ?_
      unfold wL_threads_53
      exact ql_base hb hi (pk_le (u i) (b i) (fun y => absurd y (by omega)) (fun _ => T73 1))
    · refine br_f (by rw [ql_Mf hM (by omega) hi g]; decide) ?_
      unfold wL_threads_53
      exact ql_base hb hi (pk_le (u i) (b i) (fun _ => T73 0) (fun y => absurd y g))
theorem ql_locks (H : post 1) : wpL_locks post (st, a1, a2, a3, a4, a5) := by
  unfold wpL_locks
  refine pk_loop (σ := Unit) (fun n i _ => wL_locks_2 post st a1 a2 a3 a4 a5 n (nI i)) (fun _ _ => True) 5 0 () (by omega) trivial
    (fun n _ _ => pk_le 5 5 (fun _ => H) (fun z => absurd z (by omega)))
    (fun n i _ hi _ hw => pk_le 5 i (fun z => absurd z (by omega)) (fun _ => ql_hold hi (ql_next hi ?_)))
  have hw' : wL_locks_2 post st a1 a2 a3 a4 a5 n (nI (i + 1)) := hw () trivial
  have hq := ql_bw_some (a2 := a2) (a3 := a3) (a4 := a4) (l := nI i) 6
  have hn := ql_bw_none (a2 := a2) (a3 := a3) (a4 := a4) (l := nI i) 6
  refine pk_loop (σ := Unit) (fun m j _ => wL_locks_22 post (wL_locks_2 post st a1 a2 a3 a4 a5 n) (nI i) (a5 i) (ql_o (ql_bw a2 a3 a4 (nI i) 6)) st a1 a2 a3 a4 a5 m (nI j)) (fun _ _ => True) 6 0 () (by omega) trivial
    (fun m _ _ => pk_le 6 6 (fun _ => ?_) (fun z => absurd z (by omega)))
    (fun m j _ hj _ hw2 => pk_le 6 j (fun z => absurd z (by omega)) (fun _ => ql_held hj (fun M hM => ?_)))
  · cases eo : ql_bw a2 a3 a4 (nI i) 6 with
    | none =>
      refine br_f ql_o_n0 ?_
      unfold wL_locks_79
      refine ql_waiting hi (fun c c6 hc => br_t (by rw [hc.mpr (hn eo)]; rfl) ?_)
      unfold wL_locks_92
      exact br_t rfl (br_t ql_o_neg (nm_r (nI_1 i) hw'))
    | some q =>
      obtain ⟨q6, q3⟩ := hq q eo
      refine br_t (nI_pos' (show q < 2 ^ 31 by omega)) ?_
      unfold wL_locks_79
      refine ql_waiting hi (fun c c6 hc => br_f (nI_ne0 (Nat.pos_of_ne_zero (fun z => hc.mp z q q6 q3)) (by omega)) ?_)
      unfold wL_locks_92
      exact br_t rfl (br_f (nI_pos (show q < 2 ^ 31 by omega)) (ql_wf q6 (br_t q3 (nm_r (nI_1 i) hw'))))
  · by_cases g : a5 i = nI j
    · refine br_t (ql_Mt hM (by omega) hi g) ?_
      unfold wL_locks_48 wL_locks_59
      exact br_t g (br_t rfl (nm_r (nI_1 j) (hw2 () trivial)))
    · refine br_f (by rw [ql_Mf hM (by omega) hi g]; decide) ?_
      unfold wL_locks_48 wL_locks_59
      exact br_f g (br_t rfl (nm_r (nI_1 j) (hw2 () trivial)))
end
end
section
/-! the law -/
section
variable {post : Int32 → Prop} {L : Nat} {xs : Nat → Int32} {kc ks : Nat} {st : Int32} {a1 a2 a3 a4 a5 : Nat → Int32}
theorem ql_175 {J : Int32 → Int32 → (Nat → Int32) → (Nat → Int32) → (Nat → Int32) → (Nat → Int32) → (Nat → Int32) → Prop} {i : Nat} (V : ql_V a1 a2 a3 a5) (H : J (nI (i + 1)) st a1 a2 a3 a4 a5) : wL_law_175 post L xs J (nI i) kc ks st a1 a2 a3 a4 a5 := by
  unfold wL_law_175
  exact ql_threads V (br_f (by decide) (ql_locks (br_f (by decide) (nm_r (nI_1 i) H))))
theorem ql_117 {J : Int32 → Int32 → (Nat → Int32) → (Nat → Int32) → (Nat → Int32) → (Nat → Int32) → (Nat → Int32) → Prop} {i t l : Nat} (V : ql_V a1 a2 a3 a5) (ht : t < 6) (hl : l < 5) (H : ∀ a2' a3' a5', ql_V a1 a2' a3' a5' → J (nI (i + 1)) st a1 a2' a3' a4 a5') : wL_law_117 post L xs J (nI i) (nI l) (ql_o (ql_bw a2 a3 a4 (nI l) 6)) (nI t) kc ks st a1 a2 a3 a4 a5 := by
  unfold wL_law_117
  refine ql_give V ht hl (fun x a2' a3' a5' hx V' => ?_)
  have g : wL_law_138 post L xs J (nI i) kc ks st a1 a2' a3' a4 a5' := by
    unfold wL_law_138
    exact ql_175 V' (H a2' a3' a5' V')
  rcases hx with hx | hx
  · rw [hx]
    exact br_t (by decide) g
  · exact br_c (fun _ => g) (fun _ => br_t hx g)
theorem ql_rem6 (x : Int32) : ∃ t, t < 6 ∧ (x &&& 255) - (x &&& 255) / 6 * 6 = nI t := by
  obtain ⟨j, hj, e⟩ := pk_andE x (m := 255) 8 (by decide)
  have e2 : nI j - nI j / 6 * 6 = nI (j % 6) := pk_rem (a := j) (d := 6) (by omega) (by omega) (by omega)
  exact ⟨j % 6, by omega, by rw [e, e2]⟩
theorem ql_rem5 (x : Int32) : ∃ t, t < 5 ∧ (x &&& 255) - (x &&& 255) / 5 * 5 = nI t := by
  obtain ⟨j, hj, e⟩ := pk_andE x (m := 255) 8 (by decide)
  have e2 : nI j - nI j / 5 * 5 = nI (j % 5) := pk_rem (a := j) (d := 5) (by omega) (by omega) (by omega)
  exact ⟨j % 5, by omega, by rw [e, e2]⟩
theorem ql_rem10 (x : Int32) : ∃ t, t < 10 ∧ (x &&& 15) - (x &&& 15) / 10 * 10 = nI t := by
  obtain ⟨j, hj, e⟩ := pk_andE x (m := 15) 4 (by decide)
  have e2 : nI j - nI j / 10 * 10 = nI (j % 10) := pk_rem (a := j) (d := 10) (by omega) (by omega) (by omega)
  exact ⟨j % 10, by omega, by rw [e, e2]⟩
theorem ql_step {n i : Nat} (hL : L ≤ 260) (hi : i < L) (V : ql_V a1 a2 a3 a5) (hw : ∀ st' a1' a2' a3' a4' a5', ql_V a1' a2' a3' a5' → wL_law_10 post L xs kc ks n (nI (i + 1)) st' a1' a2' a3' a4' a5') : wL_law_10 post L xs kc ks (n + 1) (nI i) st a1 a2 a3 a4 a5 := by
  obtain ⟨j, hj, ej⟩ := pk_andE (xs (nI i).toNatClampNeg) (m := 15) 4 (by decide)
  refine pk_le L i (fun z => absurd z (by omega)) (fun _ => ⟨pk_in i L hi, nm_r ej ⟨pk_in i L hi, fun x4 _ => ⟨by decide, ?_⟩⟩⟩)
  obtain ⟨t, ht, et⟩ := ql_rem6 x4
  refine nm_r et ⟨by decide, ?_⟩
  obtain ⟨l, hl, el⟩ := ql_rem5 (x4 >>> ((8 : Int32) &&& 31))
  refine nm_r el ?_
  refine pk_le 8 j (fun _ => pk_le 11 j (fun _ => pk_le 12 j (fun _ => ⟨by decide, ?_⟩) (fun _ => ?_)) (fun _ => ?_)) (fun _ => ?_)
  · obtain ⟨v, hv, ev⟩ := ql_rem10 (x4 >>> ((16 : Int32) &&& 31))
    rw [ev]
    exact ql_setBase V ht hv (fun a1' a2' V' => ql_175 V' (hw _ _ _ _ _ _ V'))
  · exact ql_giveUp V ht (fun x a2' a3' V' => ql_175 V' (hw _ _ _ _ _ _ V'))
  · refine ql_hold hl (ql_next hl ?_)
    have G : ∀ {y}, y < 6 → wL_law_117 post L xs (wL_law_10 post L xs kc ks n) (nI i) (nI l) (ql_o (ql_bw a2 a3 a4 (nI l) 6)) (nI y) kc ks st a1 a2 a3 a4 a5 := fun hy => ql_117 V hy hl (fun a2' a3' a5' V' => hw _ _ _ _ _ _ V')
    have G0 : wL_law_110 post L xs (wL_law_10 post L xs kc ks n) (nI i) (nI t) (nI l) (ql_o (ql_bw a2 a3 a4 (nI l) 6)) kc ks st a1 a2 a3 a4 a5 := by
      unfold wL_law_110
      exact G ht
    obtain ⟨b, u, w, h, hb, hu, hc, hr, hk⟩ := V
    have h5 := hc.2 l hl
    refine br_c (fun _ => G0) (fun g => br_c (fun _ => G0) (fun _ => ?_))
    cases eh : h l with
    | none =>
      rw [eh] at h5
      rw [h5.1] at g
      exact absurd ql_o_neg g
    | some p =>
      rw [eh] at h5
      have e5 : a5 l = nI p := h5.1
      rw [e5]
      exact G (h5.2 p rfl)
  · exact ql_take V ht hl (fun x st' a2' a3' a4' a5' V' => ql_175 V' (hw _ _ _ _ _ _ V'))
end
theorem i_vc (xs : Nat → Int32) (L : Nat) (hL : L ≤ 260) : wpL_law (fun r => r = 1) L xs := by
  unfold wpL_law
  refine ⟨5, 29, by decide, by decide, ql_init (fun a1 a2 a3 a4 a5 V => ?_)⟩
  exact pk_loop (fun n i (s : St1) => wL_law_10 (fun r => r = 1) L xs (1 + 5) (6 + 29) n (nI i) s.1 s.2.1 s.2.2.1 s.2.2.2.1 s.2.2.2.2.1 s.2.2.2.2.2) (fun _ (s : St1) => ql_V s.2.1 s.2.2.1 s.2.2.2.1 s.2.2.2.2.2) L 0 (0, a1, a2, a3, a4, a5) (by omega) V
    (fun n s _ => pk_le L L (fun _ => rfl) (fun z => absurd z (by omega)))
    (fun n i s hi I hw => ql_step hL hi I (fun st' a1' a2' a3' a4' a5' V' => hw (st', a1', a2', a3', a4', a5') V'))
end
