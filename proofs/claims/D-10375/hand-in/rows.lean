section
/-- how many i < n have p -/
noncomputable def ic_n (p : Nat → Prop) : Nat → Nat
  | 0 => 0
  | n + 1 => ic_n p n + @ite Nat (p n) (Classical.propDecidable (p n)) 1 0
theorem ic_n_t {p : Nat → Prop} {n : Nat} (h : p n) : ic_n p (n + 1) = ic_n p n + 1 := by
  show ic_n p n + @ite Nat (p n) (Classical.propDecidable (p n)) 1 0 = _
  rw [if_pos h]
theorem ic_n_f {p : Nat → Prop} {n : Nat} (h : ¬ p n) : ic_n p (n + 1) = ic_n p n := by
  show ic_n p n + @ite Nat (p n) (Classical.propDecidable (p n)) 1 0 = _
  rw [if_neg h]; rfl
theorem ic_n_le (p : Nat → Prop) (n : Nat) : ic_n p n ≤ n := by
  induction n with
  | zero => exact Nat.le_refl 0
  | succ n ih =>
    by_cases h : p n
    · rw [ic_n_t h]; omega
    · rw [ic_n_f h]; omega
theorem ic_n_congr {p q : Nat → Prop} {n : Nat} (h : ∀ i, i < n → (p i ↔ q i)) : ic_n p n = ic_n q n := by
  induction n with
  | zero => rfl
  | succ n ih =>
    have e := ih (fun i hi => h i (by omega))
    by_cases hp : p n
    · rw [ic_n_t hp, ic_n_t ((h n (by omega)).mp hp), e]
    · rw [ic_n_f hp, ic_n_f (fun z => hp ((h n (by omega)).mpr z)), e]
theorem ic_n_add {p q : Nat → Prop} {n i : Nat} (hi : i < n) (hp : ¬ p i) (hq : q i) (h : ∀ j, j < n → j ≠ i → (p j ↔ q j)) : ic_n q n = ic_n p n + 1 := by
  induction n with
  | zero => omega
  | succ n ih =>
    by_cases e : i = n
    · subst e
      rw [ic_n_t hq, ic_n_f hp, ic_n_congr (fun j hj => h j (by omega) (by omega))]
    · have e2 := ih (by omega) (fun j hj hn => h j (by omega) hn)
      by_cases hpn : p n
      · rw [ic_n_t hpn, ic_n_t ((h n (by omega) (fun z => e z.symm)).mp hpn), e2]
      · rw [ic_n_f hpn, ic_n_f (fun z => hpn ((h n (by omega) (fun z => e z.symm)).mpr z)), e2]
theorem ic_n_0 {p : Nat → Prop} {n : Nat} (h : ic_n p n = 0) : ∀ i, i < n → ¬ p i := by
  induction n with
  | zero => intro i hi; omega
  | succ n ih =>
    intro i hi
    by_cases hp : p n
    · rw [ic_n_t hp] at h; omega
    · rw [ic_n_f hp] at h
      by_cases e : i = n
      · rw [e]; exact hp
      · exact ih h i (by omega)
theorem ic_n_z {p : Nat → Prop} {n : Nat} (h : ∀ i, i < n → ¬ p i) : ic_n p n = 0 := by
  induction n with
  | zero => rfl
  | succ n ih => rw [ic_n_f (h n (by omega)), ih (fun i hi => h i (by omega))]
theorem ic_n_pos {p : Nat → Prop} {n i : Nat} (hi : i < n) (hp : p i) : ∃ m, ic_n p n = m + 1 := by
  cases h : ic_n p n with
  | zero => exact absurd hp (ic_n_0 h i hi)
  | succ m => exact ⟨m, rfl⟩
theorem ic_n_ex {p : Nat → Prop} {n : Nat} (h : ic_n p n ≠ 0) : ∃ i, i < n ∧ p i :=
  Classical.byContradiction (fun z => h (ic_n_z (fun i hi hp => z ⟨i, hi, hp⟩)))
theorem ic_n_1 {p : Nat → Prop} {n i j : Nat} (h : ic_n p n = 1) (hi : i < n) (hj : j < n) (pi : p i) (pj : p j) : i = j := by
  by_cases e : i = j
  · exact e
  · exfalso
    have h2 : ic_n p n = ic_n (fun k => p k ∧ k ≠ i) n + 1 := ic_n_add hi (fun z => z.2 rfl) pi (fun k _ hk => ⟨fun z => z.1, fun z => ⟨z, hk⟩⟩)
    exact ic_n_0 (show ic_n (fun k => p k ∧ k ≠ i) n = 0 by omega) j hj ⟨pj, fun z => e z.symm⟩
/-- m things into n places, none shared: m ≤ n -/
theorem ic_ph : ∀ (n m : Nat) (R : Nat → Nat → Prop), (∀ t, t < m → ∃ k, k < n ∧ R t k) → (∀ t t' k, t < m → t' < m → R t k → R t' k → t = t') → m ≤ n := by
  intro n
  induction n with
  | zero =>
    intro m R h _
    cases m with
    | zero => exact Nat.le_refl 0
    | succ m =>
      obtain ⟨k, hk, _⟩ := h 0 (by omega)
      omega
  | succ n ih =>
    intro m R h hu
    cases m with
    | zero => omega
    | succ m =>
      by_cases hx : ∃ t0, t0 < m + 1 ∧ R t0 n
      · obtain ⟨t0, ht0, hr0⟩ := hx
        have hsk : ∀ t, t < m → (if t < t0 then t else t + 1) < m + 1 ∧ (if t < t0 then t else t + 1) ≠ t0 := by
          intro t ht
          by_cases e : t < t0
          · rw [if_pos e]; omega
          · rw [if_neg e]; omega
        have := ih m (fun t k => R (if t < t0 then t else t + 1) k) (fun t ht => by
          obtain ⟨k, hk, hr⟩ := h _ (hsk t ht).1
          refine ⟨k, ?_, hr⟩
          by_cases e : k = n
          · exfalso
            rw [e] at hr
            exact (hsk t ht).2 (hu _ _ n (hsk t ht).1 ht0 hr hr0)
          · omega) (fun t t' k ht ht' hr hr' => by
          have e := hu _ _ k (hsk t ht).1 (hsk t' ht').1 hr hr'
          by_cases c1 : t < t0
          · by_cases c2 : t' < t0
            · rw [if_pos c1, if_pos c2] at e; exact e
            · rw [if_pos c1, if_neg c2] at e; omega
          · by_cases c2 : t' < t0
            · rw [if_neg c1, if_pos c2] at e; omega
            · rw [if_neg c1, if_neg c2] at e; omega)
        omega
      · have := ih (m + 1) R (fun t ht => by
          obtain ⟨k, hk, hr⟩ := h t ht
          refine ⟨k, ?_, hr⟩
          by_cases e : k = n
          · exfalso
            rw [e] at hr
            exact hx ⟨t, ht, hr⟩
          · omega) hu
        omega
/-! ints -/
theorem ic_m1 {p : Nat} (h : p < 2 ^ 31) : ¬ nI p = -1 := fun e => nI_pos h (by rw [e]; decide)
theorem ic_m2 {p : Nat} (h : p < 2 ^ 31) : ¬ nI p = -2 := fun e => nI_pos h (by rw [e]; decide)
theorem ic_inj {a b : Nat} (ha : a < 2 ^ 31) (hb : b < 2 ^ 31) (h : nI a = nI b) : a = b := (nI_eq ha hb).mp h
theorem ic_ix (a b : Nat) : nI a * 4 + nI b = nI (4 * a + b) := by
  rw [show (4 : Int32) = nI 4 from rfl, pk_mul, nI_add, Nat.mul_comm]
theorem ic_ixc (f : Nat) {c : Nat} (hc : c < 16) : nI f * 4 + (nI c >>> ((2 : Int32) &&& 31)) = nI (4 * f + c / 4) := by
  rw [pk_shrN (by omega) _ 2 (by decide), ic_ix]
theorem ic_ixm (t : Nat) {c : Nat} (hc : c < 16) : nI t * 4 + (nI c &&& 3) = nI (4 * t + c % 4) := by
  rw [pk_andN (by omega) 2 (by decide), ic_ix]
theorem ic_pred (n : Nat) : nI (n + 1) - 1 = nI n := nI_pred n
theorem ic_dec {n : Nat} : nI (n + 1) - 1 = nI n := nI_pred n
theorem ic_inc {n : Nat} : nI n + 1 = nI (n + 1) := nI_1 n
end
section
/-- what slot k of first says at place j of its second table -/
def ic_ent (a1 a2 : Nat → Int32) (k j : Nat) : Int32 := if a1 k < 0 then -1 else a2 (4 * (a1 k).toNatClampNeg + j)
def ic_rg (r : Int32) : Prop := r = -1 ∨ r = -2 ∨ ∃ p, p < 132 ∧ r = nI p
def ic_ev (a4 : Nat → Int32) (r : Int32) (o : Option Int32) : Prop := (r = -1 ∧ o = none) ∨ (r = -2 ∧ o = some 0) ∨ ∃ p, p < 132 ∧ r = nI p ∧ o = some (a4 p)
def ic_Tn (i : Nat) (a1 a3 : Nat → Int32) : Prop := ∀ t, t < 36 → a3 t = nI (ic_n (fun k => a1 k = nI t) i)
def ic_T (a1 a3 : Nat → Int32) : Prop := ic_Tn 32 a1 a3
def ic_S (U : Nat → Prop) (a2 a5 : Nat → Int32) : Prop := ∀ p, p < 132 → a5 p = nI (ic_n (fun q => U q ∧ a2 q = nI p) 144)
def ic_U (a3 : Nat → Int32) : Nat → Prop := fun q => ¬ a3 (q / 4) = 0
/-- the core: first's range, exact counts, the empty slots, what every slot says -/
def ic_C (Z : Nat → Prop) (E : Nat → Nat → Option Int32) (a1 a2 a3 a4 a5 : Nat → Int32) : Prop :=
  (∀ k, k < 32 → a1 k = -1 ∨ ∃ t, t < 36 ∧ a1 k = nI t) ∧ ic_T a1 a3 ∧ ic_S (ic_U a3) a2 a5 ∧ (∀ k, k < 32 → Z k → a1 k = -1) ∧ (∀ k j, k < 32 → j < 4 → ic_ev a4 (ic_ent a1 a2 k j) (E k j))
section
variable {U U' Z Z' : Nat → Prop} {E E' : Nat → Nat → Option Int32} {a1 a1' a2 a2' a3 a3' a4 a4' a5 a5' : Nat → Int32} {k k' k0 j j0 t n m p q : Nat} {r v : Int32} {o : Option Int32}
theorem ic_ev_rg (h : ic_ev a4 r o) : ic_rg r := by
  rcases h with h | h | ⟨p, hp, h, _⟩
  · exact Or.inl h.1
  · exact Or.inr (Or.inl h.1)
  · exact Or.inr (Or.inr ⟨p, hp, h⟩)
theorem ic_ent_n (h : a1 k = -1) : ic_ent a1 a2 k j = -1 := by
  unfold ic_ent
  rw [h]
  exact if_pos (by decide)
theorem ic_ent_s (ht : t < 36) (h : a1 k = nI t) : ic_ent a1 a2 k j = a2 (4 * t + j) := by
  unfold ic_ent
  rw [h, if_neg (nI_pos (by omega)), nI_clamp (by omega)]
theorem ic_ent_un (h : k ≠ k0) : ic_ent (upd a1 k0 v) a2 k j = ic_ent a1 a2 k j := by
  unfold ic_ent
  rw [pk_un h]
theorem ic_ent_us (h : v = a1 k) : ic_ent (upd a1 k0 v) a2 k0 j = ic_ent a1 a2 k j := by
  unfold ic_ent
  rw [pk_us, h]
/-! exact counts of places -/
theorem ic_S_congr (h : ic_S U a2 a5) (hu : ∀ q, q < 144 → (U' q ↔ U q)) (h2 : ∀ q, q < 144 → U q → a2' q = a2 q) : ic_S U' a2' a5 := fun p hp =>
  (h p hp).trans (congrArg nI (ic_n_congr (fun q hq => ⟨fun z => ⟨(hu q hq).mpr z.1, (h2 q hq z.1).trans z.2⟩, fun z => ⟨(hu q hq).mp z.1, (h2 q hq ((hu q hq).mp z.1)).symm.trans z.2⟩⟩)))
theorem ic_S_out (h : ic_S U a2 a5) (hq : q < 144) (hU : U q) (hp : p < 132) (e : a2 q = nI p) : ic_S (fun x => U x ∧ x ≠ q) a2 (upd a5 p (a5 p - 1)) := by
  intro p' hp'
  by_cases ep : p' = p
  · rw [ep, pk_us, h p hp]
    have c := ic_n_add (p := fun x => (U x ∧ x ≠ q) ∧ a2 x = nI p) (q := fun x => U x ∧ a2 x = nI p) hq (fun z => z.1.2 rfl) ⟨hU, e⟩ (fun j _ hj => ⟨fun z => ⟨z.1.1, z.2⟩, fun z => ⟨⟨z.1, hj⟩, z.2⟩⟩)
    rw [c, nI_pred]
  · rw [pk_un ep, h p' hp']
    refine congrArg nI (ic_n_congr (fun x hx => ⟨fun z => ⟨⟨z.1, fun ex => ?_⟩, z.2⟩, fun z => ⟨z.1.1, z.2⟩⟩))
    have z2 : a2 x = nI p' := z.2
    rw [ex, e] at z2
    exact ep (ic_inj (by omega) (by omega) z2.symm)
theorem ic_S_out' (h : ic_S U a2 a5) (e : a2 q = -1 ∨ a2 q = -2) : ic_S (fun x => U x ∧ x ≠ q) a2 a5 := by
  intro p' hp'
  rw [h p' hp']
  refine congrArg nI (ic_n_congr (fun x hx => ⟨fun z => ⟨⟨z.1, fun ex => ?_⟩, z.2⟩, fun z => ⟨z.1.1, z.2⟩⟩))
  have z2 : a2 x = nI p' := z.2
  rw [ex] at z2
  rcases e with e | e
  · exact ic_m1 (by omega) (z2.symm.trans e)
  · exact ic_m2 (by omega) (z2.symm.trans e)
theorem ic_S_in (h : ic_S U a2 a5) (hq : q < 144) (hU : ¬ U q) (hp : p < 132) (e : a2' q = nI p) (h2 : ∀ x, x < 144 → U x → a2' x = a2 x) : ic_S (fun x => U x ∨ x = q) a2' (upd a5 p (a5 p + 1)) := by
  intro p' hp'
  by_cases ep : p' = p
  · rw [ep, pk_us, h p hp, nI_1]
    exact congrArg nI (ic_n_add (p := fun x => U x ∧ a2 x = nI p) (q := fun x => (U x ∨ x = q) ∧ a2' x = nI p) hq (fun z => hU z.1) ⟨Or.inr rfl, e⟩ (fun x hx hn => ⟨fun z => ⟨Or.inl z.1, (h2 x hx z.1).trans z.2⟩, fun z => z.1.elim (fun u => ⟨u, (h2 x hx u).symm.trans z.2⟩) (fun w => absurd w hn)⟩)).symm
  · rw [pk_un ep, h p' hp']
    refine congrArg nI (ic_n_congr (fun x hx => ⟨fun z => ⟨Or.inl z.1, (h2 x hx z.1).trans z.2⟩, fun z => z.1.elim (fun u => ⟨u, (h2 x hx u).symm.trans z.2⟩) (fun w => ?_)⟩))
    have z2 : a2' x = nI p' := z.2
    rw [w, e] at z2
    exact absurd (ic_inj (by omega) (by omega) z2.symm) ep
theorem ic_S_in' (h : ic_S U a2 a5) (e : a2' q = -1 ∨ a2' q = -2) (h2 : ∀ x, x < 144 → x ≠ q → U x → a2' x = a2 x) (hU : ¬ U q) : ic_S (fun x => U x ∨ x = q) a2' a5 := by
  intro p' hp'
  rw [h p' hp']
  refine congrArg nI (ic_n_congr (fun x hx => ⟨fun z => ⟨Or.inl z.1, (h2 x hx (fun w => hU (w ▸ z.1)) z.1).trans z.2⟩, fun z => z.1.elim (fun u => ⟨u, (h2 x hx (fun w => hU (w ▸ u)) u).symm.trans z.2⟩) (fun w => ?_)⟩))
  have z2 : a2' x = nI p' := z.2
  rw [w] at z2
  rcases e with e | e
  · exact absurd (z2.symm.trans e) (ic_m1 (by omega))
  · exact absurd (z2.symm.trans e) (ic_m2 (by omega))
theorem ic_S_free (h : ic_S U a2 a5) (hp : p < 132) (h0 : a5 p = 0) (hq : q < 144) (hU : U q) : ¬ a2 q = nI p := by
  have c := h p hp
  rw [h0, ← nI_0] at c
  have c2 := ic_inj (by omega) (Nat.lt_of_le_of_lt (ic_n_le _ 144) (by omega)) c
  exact fun e => ic_n_0 c2.symm q hq ⟨hU, e⟩
theorem ic_S_one (h : ic_S U a2 a5) (hp : p < 132) (h1 : a5 p = 1) {x y : Nat} (hx : x < 144) (hy : y < 144) (ux : U x) (uy : U y) (ex : a2 x = nI p) (ey : a2 y = nI p) : x = y := by
  have c := h p hp
  rw [h1, show (1 : Int32) = nI 1 from rfl] at c
  have c2 := ic_inj (by omega) (Nat.lt_of_le_of_lt (ic_n_le _ 144) (by omega)) c
  exact ic_n_1 c2.symm hx hy ⟨ux, ex⟩ ⟨uy, ey⟩
/-! exact counts of tables -/
theorem ic_T_congr (h : ic_T a1 a3) (h1 : ∀ k, k < 32 → a1' k = a1 k) (h3 : ∀ t, t < 36 → a3' t = a3 t) : ic_T a1' a3' := fun t ht => by
  rw [h3 t ht, h t ht]
  exact congrArg nI (ic_n_congr (fun k hk => by rw [h1 k hk]))
theorem ic_T_out (h : ic_T a1 a3) (hk : k0 < 32) (ht : t < 36) (e : a1 k0 = nI t) (e3 : a3 t = nI (n + 1)) (hn : n < 32) : ic_T (upd a1 k0 (-1)) (upd a3 t (nI n)) := by
  intro t' ht'
  by_cases et : t' = t
  · rw [et, pk_us]
    have c := ic_n_add (p := fun k => upd a1 k0 (-1) k = nI t) (q := fun k => a1 k = nI t) hk (by show ¬ upd a1 k0 (-1) k0 = nI t; rw [pk_us]; exact fun z => ic_m1 (by omega) z.symm) e (fun k _ hn => by show upd a1 k0 (-1) k = nI t ↔ a1 k = nI t; rw [pk_un hn])
    have c2 := h t ht
    rw [e3] at c2
    have c3 := ic_inj (by omega) (Nat.lt_of_le_of_lt (ic_n_le _ 32) (by omega)) c2
    exact congrArg nI (by omega)
  · rw [pk_un et, h t' ht']
    refine congrArg nI (ic_n_congr (fun k hk => ?_))
    show a1 k = nI t' ↔ upd a1 k0 (-1) k = nI t'
    by_cases ek : k = k0
    · rw [ek, pk_us, e]
      exact ⟨fun z => absurd (ic_inj (by omega) (by omega) z.symm) et, fun z => absurd z.symm (ic_m1 (by omega))⟩
    · rw [pk_un ek]
theorem ic_T_in (h : ic_T a1 a3) (hk : k0 < 32) (ht : t < 36) (e : a1 k0 = -1) (e3 : a3 t = nI n) (hn : n ≤ 32) : ic_T (upd a1 k0 (nI t)) (upd a3 t (nI (n + 1))) := by
  intro t' ht'
  by_cases et : t' = t
  · rw [et, pk_us]
    have c := ic_n_add (p := fun k => a1 k = nI t) (q := fun k => upd a1 k0 (nI t) k = nI t) hk (by show ¬ a1 k0 = nI t; rw [e]; exact fun z => ic_m1 (by omega) z.symm) pk_us (fun k _ hn => by show a1 k = nI t ↔ upd a1 k0 (nI t) k = nI t; rw [pk_un hn])
    have c2 := h t ht
    rw [e3] at c2
    have c3 := ic_inj (by omega) (Nat.lt_of_le_of_lt (ic_n_le _ 32) (by omega)) c2
    exact congrArg nI (by omega)
  · rw [pk_un et, h t' ht']
    refine congrArg nI (ic_n_congr (fun k hk => ?_))
    show a1 k = nI t' ↔ upd a1 k0 (nI t) k = nI t'
    by_cases ek : k = k0
    · rw [ek, pk_us, e]
      exact ⟨fun z => absurd z.symm (ic_m1 (by omega)), fun z => absurd (ic_inj (by omega) (by omega) z.symm) et⟩
    · rw [pk_un ek]
theorem ic_T_pos (h : ic_T a1 a3) (hk : k < 32) (ht : t < 36) (e : a1 k = nI t) : ∃ m, m < 32 ∧ a3 t = nI (m + 1) := by
  obtain ⟨m, hm⟩ := ic_n_pos (p := fun k => a1 k = nI t) hk e
  have hl := ic_n_le (fun k => a1 k = nI t) 32
  exact ⟨m, by omega, by rw [h t ht, hm]⟩
theorem ic_T_nz (h : ic_T a1 a3) (hk : k < 32) (ht : t < 36) (e : a1 k = nI t) : ¬ a3 t = 0 := by
  obtain ⟨m, hm, e3⟩ := ic_T_pos h hk ht e
  rw [e3]
  exact nI_ne0 (by omega) (by omega)
theorem ic_T_U (h : ic_T a1 a3) (hk : k < 32) (ht : t < 36) (e : a1 k = nI t) (hj : j < 4) : ic_U a3 (4 * t + j) := by
  show ¬ a3 ((4 * t + j) / 4) = 0
  rw [show (4 * t + j) / 4 = t by omega]
  exact ic_T_nz h hk ht e
theorem ic_T_ex (h : ic_T a1 a3) (ht : t < 36) (hz : ¬ a3 t = 0) : ∃ k, k < 32 ∧ a1 k = nI t :=
  ic_n_ex (p := fun k => a1 k = nI t) (fun z => hz (by rw [h t ht, z, nI_0]))
theorem ic_T_one (h : ic_T a1 a3) (ht : t < 36) (h1 : a3 t = 1) (hk : k < 32) (hk' : k' < 32) (e : a1 k = nI t) (e' : a1 k' = nI t) : k = k' := by
  have c := h t ht
  rw [h1, show (1 : Int32) = nI 1 from rfl] at c
  have c2 := ic_inj (by omega) (Nat.lt_of_le_of_lt (ic_n_le _ 32) (by omega)) c
  exact ic_n_1 c2.symm hk hk' e e'
theorem ic_freeT (h : ic_T a1 a3) : ∃ t, t < 36 ∧ a3 t = 0 := Classical.byContradiction (fun z => by
  have := ic_ph 32 36 (fun t k => a1 k = nI t) (fun t ht => ic_T_ex h ht (fun e => z ⟨t, ht, e⟩)) (fun t t' k ht ht' e e' => ic_inj (by omega) (by omega) (e.symm.trans e'))
  omega)
theorem ic_freeP (h : ic_T a1 a3) (hS : ic_S U a2 a5) (hU : ∀ q, q < 144 → U q → ic_U a3 q) : ∃ p, p < 132 ∧ a5 p = 0 := Classical.byContradiction (fun z => by
  have := ic_ph 128 132 (fun p x => ∃ t, t < 36 ∧ a1 (x / 4) = nI t ∧ a2 (4 * t + x % 4) = nI p) (fun p hp => by
    obtain ⟨q, hq, uq, eq⟩ := ic_n_ex (p := fun q => U q ∧ a2 q = nI p) (n := 144) (fun e => z ⟨p, hp, by rw [hS p hp, e, nI_0]⟩)
    obtain ⟨k, hk, ek⟩ := ic_T_ex h (t := q / 4) (by omega) (hU q hq uq)
    refine ⟨4 * k + q % 4, by omega, q / 4, by omega, ?_, ?_⟩
    · rw [show (4 * k + q % 4) / 4 = k by omega]; exact ek
    · rw [show 4 * (q / 4) + (4 * k + q % 4) % 4 = q by omega]; exact eq) (fun p p' x hp hp' e e' => by
    obtain ⟨t, ht, e1, e2⟩ := e
    obtain ⟨t', ht', e1', e2'⟩ := e'
    have et := ic_inj (by omega) (by omega) (e1.symm.trans e1')
    rw [← et] at e2'
    exact ic_inj (by omega) (by omega) (e2.symm.trans e2'))
  omega)
/-! the core -/
theorem ic_C_w (h : ic_C Z E a1 a2 a3 a4 a5) (hz : ∀ k, k < 32 → Z' k → Z k) (he : ∀ k j, k < 32 → j < 4 → E' k j = E k j) : ic_C Z' E' a1 a2 a3 a4 a5 :=
  ⟨h.1, h.2.1, h.2.2.1, fun k hk z => h.2.2.2.1 k hk (hz k hk z), fun k j hk hj => by rw [he k j hk hj]; exact h.2.2.2.2 k j hk hj⟩
theorem ic_C_rg (h : ic_C Z E a1 a2 a3 a4 a5) (hk : k < 32) (ht : t < 36) (e : a1 k = nI t) (hj : j < 4) : ic_rg (a2 (4 * t + j)) := by
  have c := ic_ev_rg (h.2.2.2.2 k j hk hj)
  rw [ic_ent_s ht e] at c
  exact c
theorem ic_C_set (h : ic_C Z E a1 a2 a3 a4 a5) (hv : v = -1 ∨ ∃ t, t < 36 ∧ v = nI t) (hT : ic_T (upd a1 k0 v) a3') (hS : ic_S (ic_U a3') a2 a5') (hZ : ∀ k, k < 32 → Z' k → (k = k0 ∧ v = -1) ∨ (k ≠ k0 ∧ Z k)) (hE0 : ∀ j, j < 4 → ic_ev a4 (ic_ent (upd a1 k0 v) a2 k0 j) (E' k0 j)) (hE : ∀ k j, k < 32 → j < 4 → k ≠ k0 → E' k j = E k j) : ic_C Z' E' (upd a1 k0 v) a2 a3' a4 a5' := by
  refine ⟨fun k hk => ?_, hT, hS, fun k hk z => ?_, fun k j hk hj => ?_⟩
  · by_cases e : k = k0
    · rw [e, pk_us]; exact hv
    · rw [pk_un e]; exact h.1 k hk
  · rcases hZ k hk z with ⟨e, e2⟩ | ⟨e, e2⟩
    · rw [e, pk_us]; exact e2
    · rw [pk_un e]; exact h.2.2.2.1 k hk e2
  · by_cases e : k = k0
    · rw [e]; exact hE0 j hj
    · rw [ic_ent_un e, hE k j hk hj e]; exact h.2.2.2.2 k j hk hj
theorem ic_U_same (h : ∀ t, t < 36 → (a3' t = 0 ↔ a3 t = 0)) : ∀ q, q < 144 → (ic_U a3' q ↔ ic_U a3 q) := fun q hq => not_congr (h (q / 4) (by omega))
/-- a slot gets what another slot has -/
theorem ic_C_share (h : ic_C Z E a1 a2 a3 a4 a5) (hk : k0 < 32) (hk' : k < 32) (hz : Z k0) (hZ : ∀ x, x < 32 → Z' x → x ≠ k0 ∧ Z x) (hE0 : ∀ j, j < 4 → E' k0 j = E k j) (hE : ∀ x j, x < 32 → j < 4 → x ≠ k0 → E' x j = E x j) :
    (a1 k = -1 → ic_C Z' E' (upd a1 k0 (-1)) a2 a3 a4 a5) ∧ (∀ t, t < 36 → a1 k = nI t → ic_C Z' E' (upd a1 k0 (nI t)) a2 (upd a3 t (a3 t + 1)) a4 a5) := by
  have z0 := h.2.2.2.1 k0 hk hz
  refine ⟨fun e => ?_, fun t ht e => ?_⟩
  · refine ic_C_set h (Or.inl rfl) (ic_T_congr h.2.1 (fun x hx => ?_) (fun _ _ => rfl)) h.2.2.1 (fun x hx zx => Or.inr (hZ x hx zx)) (fun j hj => ?_) hE
    · by_cases ex : x = k0
      · rw [ex, pk_us, z0]
      · rw [pk_un ex]
    · rw [ic_ent_us e.symm, hE0 j hj]
      exact h.2.2.2.2 k j hk' hj
  · obtain ⟨m, hm, e3⟩ := ic_T_pos h.2.1 hk' ht e
    have u3 : upd a3 t (a3 t + 1) = upd a3 t (nI (m + 1 + 1)) := by rw [e3, nI_1]
    refine ic_C_set h (Or.inr ⟨t, ht, rfl⟩) ?_ (ic_S_congr h.2.2.1 (ic_U_same (fun x hx => ?_)) (fun _ _ _ => rfl)) (fun x hx zx => Or.inr (hZ x hx zx)) (fun j hj => ?_) hE
    · rw [u3]
      exact ic_T_in h.2.1 hk ht z0 e3 (by omega)
    · rw [u3]
      by_cases ex : x = t
      · rw [ex, pk_us, e3]
        exact ⟨fun z => absurd z (nI_ne0 (by omega) (by omega)), fun z => absurd z (nI_ne0 (by omega) (by omega))⟩
      · rw [pk_un ex]
    · rw [ic_ent_us e.symm, hE0 j hj]
      exact h.2.2.2.2 k j hk' hj
/-- a slot's table moves to another slot -/
theorem ic_C_move (h : ic_C Z E a1 a2 a3 a4 a5) {x y : Nat} (hx : x < 32) (hy : y < 32) (hxy : x ≠ y) (hz : Z x) (hZ : ∀ k, k < 32 → Z' k → k = y ∨ (k ≠ x ∧ Z k)) (hEx : ∀ j, j < 4 → E' x j = E y j) (hEy : ∀ j, j < 4 → E' y j = none) (hE : ∀ k j, k < 32 → j < 4 → k ≠ x → k ≠ y → E' k j = E k j) :
    ic_C Z' E' (upd (upd a1 x (a1 y)) y (-1)) a2 a3 a4 a5 := by
  have z0 := h.2.2.2.1 x hx hz
  have e1 : ∀ k, upd (upd a1 x (a1 y)) y (-1) k = if k = y then -1 else if k = x then a1 y else a1 k := fun k => rfl
  refine ⟨fun k hk => ?_, ?_, h.2.2.1, fun k hk z => ?_, fun k j hk hj => ?_⟩
  · by_cases ky : k = y
    · rw [ky, pk_us]; exact Or.inl rfl
    · rw [pk_un ky]
      by_cases kx : k = x
      · rw [kx, pk_us]; exact h.1 y hy
      · rw [pk_un kx]; exact h.1 k hk
  · rcases h.1 y hy with e | ⟨t, ht, e⟩
    · refine ic_T_congr h.2.1 (fun k hk => ?_) (fun _ _ => rfl)
      by_cases ky : k = y
      · rw [ky, pk_us, e]
      · rw [pk_un ky]
        by_cases kx : k = x
        · rw [kx, pk_us, e, z0]
        · rw [pk_un kx]
    · obtain ⟨m, hm, e3⟩ := ic_T_pos h.2.1 hy ht e
      have T1 := ic_T_out h.2.1 hy ht e e3 hm
      have T2 := ic_T_in (k0 := x) T1 hx ht (by rw [pk_un hxy]; exact z0) pk_us (by omega)
      refine ic_T_congr T2 (fun k hk => ?_) (fun t' ht' => ?_)
      · by_cases ky : k = y
        · rw [ky, pk_us, pk_un (fun z => hxy z.symm), pk_us]
        · rw [pk_un ky]
          by_cases kx : k = x
          · rw [kx, pk_us, pk_us, e]
          · rw [pk_un kx, pk_un kx, pk_un ky]
      · by_cases et : t' = t
        · rw [et, pk_us, e3]
        · rw [pk_un et, pk_un et]
  · rcases hZ k hk z with e | ⟨e, e2⟩
    · rw [e, pk_us]
    · by_cases ky : k = y
      · rw [ky, pk_us]
      · rw [pk_un ky, pk_un e]; exact h.2.2.2.1 k hk e2
  · by_cases ky : k = y
    · rw [ky, hEy j hj, ic_ent_n pk_us]
      exact Or.inl ⟨rfl, rfl⟩
    · rw [ic_ent_un ky]
      by_cases kx : k = x
      · rw [kx, ic_ent_us rfl, hEx j hj]
        exact h.2.2.2.2 y j hy hj
      · rw [ic_ent_un kx, hE k j hk hj kx ky]
        exact h.2.2.2.2 k j hk hj
/-- a slot gets a table of its own with what it had -/
theorem ic_C_own (h : ic_C Z E a1 a2 a3 a4 a5) (hk : k0 < 32) (hz : ¬ Z k0) (hm : m < 36) (h0 : a3 m = 0) (hT : ic_T (upd a1 k0 (nI m)) a3') (hS : ic_S (ic_U a3') a2' a5') (h2 : ∀ j, j < 4 → a2' (4 * m + j) = ic_ent a1 a2 k0 j) (h2o : ∀ q, ¬ (4 * m ≤ q ∧ q < 4 * m + 4) → a2' q = a2 q) :
    ic_C Z E (upd a1 k0 (nI m)) a2' a3' a4 a5' := by
  refine ⟨fun k hk => ?_, hT, hS, fun k hk z => ?_, fun k j hk' hj => ?_⟩
  · by_cases e : k = k0
    · rw [e, pk_us]; exact Or.inr ⟨m, hm, rfl⟩
    · rw [pk_un e]; exact h.1 k hk
  · have ne : k ≠ k0 := fun e => hz (by rw [← e]; exact z)
    rw [pk_un ne]
    exact h.2.2.2.1 k hk z
  · by_cases e : k = k0
    · rw [e, ic_ent_s hm pk_us, h2 j hj]
      exact h.2.2.2.2 k0 j hk hj
    · rw [ic_ent_un e]
      have c := h.2.2.2.2 k j hk' hj
      rcases h.1 k hk' with e1 | ⟨t, ht, e1⟩
      · rw [ic_ent_n e1] at c ⊢
        exact c
      · rw [ic_ent_s ht e1] at c ⊢
        have tm : t ≠ m := fun z => ic_T_nz h.2.1 hk' ht e1 (by rw [z]; exact h0)
        rw [h2o _ (by omega)]
        exact c
/-- a place of a slot's own table is written -/
theorem ic_C_put (h : ic_C Z E a1 a2 a3 a4 a5) (hk : k0 < 32) (ht : t < 36) (e1 : a1 k0 = nI t) (e3 : a3 t = 1) (hj : j0 < 4) (hS : ic_S (ic_U a3) (upd a2 (4 * t + j0) v) a5') (hv : ic_ev a4' v o) (h4 : ∀ q p, q < 144 → ic_U a3 q → q ≠ 4 * t + j0 → p < 132 → a2 q = nI p → a4' p = a4 p) :
    ic_C Z (fun k j => if k = k0 ∧ j = j0 then o else E k j) a1 (upd a2 (4 * t + j0) v) a3 a4' a5' := by
  refine ⟨h.1, h.2.1, hS, h.2.2.2.1, fun k j hk' hj' => ?_⟩
  have c := h.2.2.2.2 k j hk' hj'
  show ic_ev a4' (ic_ent a1 (upd a2 (4 * t + j0) v) k j) (if k = k0 ∧ j = j0 then o else E k j)
  by_cases e : k = k0 ∧ j = j0
  · rw [if_pos e, e.1, e.2, ic_ent_s ht e1, pk_us]
    exact hv
  · rw [if_neg e]
    rcases h.1 k hk' with e2 | ⟨t', ht', e2⟩
    · rw [ic_ent_n e2] at c ⊢
      rcases c with c | c | ⟨p, hp, c1, c2⟩
      · exact Or.inl c
      · exact Or.inr (Or.inl c)
      · exact absurd c1.symm (ic_m1 (by omega))
    · have ne : 4 * t' + j ≠ 4 * t + j0 := by
        intro z
        have et : t' = t := by omega
        rw [et] at e2
        exact e ⟨ic_T_one h.2.1 ht e3 hk' hk e2 e1, by omega⟩
      rw [ic_ent_s ht' e2] at c ⊢
      rw [pk_un ne]
      rcases c with c | c | ⟨p, hp, c1, c2⟩
      · exact Or.inl c
      · exact Or.inr (Or.inl c)
      · refine Or.inr (Or.inr ⟨p, hp, c1, ?_⟩)
        rw [h4 (4 * t' + j) p (by omega) (ic_T_U h.2.1 hk' ht' e2 hj') ne hp c1]
        exact c2
end
end
section
section
variable {po : Int32 → Prop} {post : St1 → Prop} {ps : Int32 → St1 → Prop} {im sh : Int32} {U U' Z Z' : Nat → Prop} {E E' : Nat → Nat → Option Int32} {a1 a2 a3 a4 a5 a6 a7 a8 : Nat → Int32} {f g c k k0 j t n m p q : Nat} {r w : Int32}
theorem ic_entry (h : ic_C Z E a1 a2 a3 a4 a5) (hf : f < 8) (hc : c < 16) (hp : ∀ r, r = ic_ent a1 a2 (4 * f + c / 4) (c % 4) → ic_ev a4 r (E (4 * f + c / 4) (c % 4)) → po r) : wpX_entry po (im, sh, a1, a2, a3, a4, a5, a6, a7, a8) (nI f) (nI c) := by
  refine ⟨pk_in (4 * f + c / 4) 32 (by omega) (ic_ixc f hc), nm_r (e' := a1 (4 * f + c / 4)) (by rw [pk_cl _ (ic_ixc f hc)]) ?_⟩
  have hv := h.2.2.2.2 (4 * f + c / 4) (c % 4) (by omega) (by omega)
  rcases h.1 (4 * f + c / 4) (by omega) with e | ⟨t, ht, e⟩
  · exact br_f (by rw [e]; decide) (hp _ (ic_ent_n e).symm (by rw [ic_ent_n e] at hv; exact hv))
  · rw [e]
    refine br_t (nI_pos' (by omega)) ⟨pk_in (4 * t + c % 4) 144 (by omega) (ic_ixm t hc), ?_⟩
    rw [pk_cl (4 * t + c % 4) (ic_ixm t hc)]
    exact hp _ (ic_ent_s ht e).symm (by rw [ic_ent_s ht e] at hv; exact hv)
theorem ic_leavePlace (hS : ic_S U a2 a5) (hq : q < 144) (hU : U q) (hr : ic_rg r) (er : a2 q = r) (hp : ∀ a5', ic_S (fun x => U x ∧ x ≠ q) a2 a5' → post (im, sh, a1, a2, a3, a4, a5', a6, a7, a8)) : wpX_leavePlace post (im, sh, a1, a2, a3, a4, a5, a6, a7, a8) r := by
  rcases hr with e | e | ⟨p, hp', e⟩
  · exact br_t (by rw [e]; decide) (hp a5 (ic_S_out' hS (Or.inl (er.trans e))))
  · exact br_t (by rw [e]; decide) (hp a5 (ic_S_out' hS (Or.inr (er.trans e))))
  · rw [e]
    exact br_f (nI_pos (by omega)) ⟨pk_in p 132 hp', pk_in p 132 hp', nm_r (e' := upd a5 p (a5 p - 1)) (by rw [nI_clamp (by omega)]) (hp _ (ic_S_out hS hq hU hp' (er.trans e)))⟩
theorem ic_leaveTable (ht : t < 36) (hn : n < 32) (h3 : a3 t = nI (n + 1)) (hS : ic_S (ic_U a3) a2 a5) (hr : ∀ j, j < 4 → ic_rg (a2 (4 * t + j))) (hp : ∀ a5', ic_S (ic_U (upd a3 t (nI n))) a2 a5' → post (im, sh, a1, a2, upd a3 t (nI n), a4, a5', a6, a7, a8)) : wpX_leaveTable post (im, sh, a1, a2, a3, a4, a5, a6, a7, a8) (nI t) := by
  refine br_t (nI_pos' (by omega)) ⟨pk_in t 36 ht, pk_in t 36 ht, nm_r (e' := upd a3 t (nI n)) (by rw [nI_clamp (by omega), h3, nI_pred]) ⟨pk_in t 36 ht, ?_⟩⟩
  refine pk_eq n 0 (fun e => ?_) (fun e => ?_) (by rw [nI_clamp (by omega), pk_us])
  · have U4 : ∀ q, q < 144 → (ic_U (upd a3 t (nI n)) q ↔ ic_U a3 q ∧ ¬ (4 * t ≤ q ∧ q < 4 * t + 4)) := by
      intro q hq
      unfold ic_U
      by_cases c : q / 4 = t
      · rw [c, pk_us, e]
        exact ⟨fun z => absurd nI_0 z, fun z => absurd ⟨by omega, by omega⟩ z.2⟩
      · rw [pk_un c]
        exact ⟨fun z => ⟨z, by omega⟩, fun z => z.1⟩
    refine pk_loop (fun n' i s => wX_leaveTable_30 post (nI t) n' (nI i) im sh a1 a2 (upd a3 t (nI n)) a4 s a6 a7 a8) (fun i s => ic_S (fun q => ic_U a3 q ∧ ¬ (4 * t ≤ q ∧ q < 4 * t + i)) a2 s) 4 0 a5 (by omega) (ic_S_congr hS (fun q hq => ⟨fun z => z.1, fun z => ⟨z, by omega⟩⟩) (fun _ _ _ => rfl)) ?_ ?_
    · intro n' s hI
      exact pk_le 4 4 (fun _ => hp s (ic_S_congr hI U4 (fun _ _ _ => rfl))) (fun z => absurd z (by omega))
    · intro n' i s hi hI hw
      refine pk_le 4 i (fun z => absurd z (by omega)) (fun _ => ⟨pk_in (4 * t + i) 144 (by omega) (ic_ix t i), ?_⟩)
      rw [pk_cl (4 * t + i) (ic_ix t i)]
      refine ic_leavePlace hI (q := 4 * t + i) (by omega) ⟨?_, by omega⟩ (hr i hi) rfl (fun a5' h5 => nm_r (nI_1 i) (hw a5' (ic_S_congr h5 (fun q hq => ?_) (fun _ _ _ => rfl))))
      · show ¬ a3 ((4 * t + i) / 4) = 0
        rw [show (4 * t + i) / 4 = t by omega, h3]
        exact nI_ne0 (by omega) (by omega)
      · exact ⟨fun z => ⟨⟨z.1, by omega⟩, by omega⟩, fun z => ⟨z.1.1, by omega⟩⟩
  · refine hp a5 (ic_S_congr hS (ic_U_same (fun x hx => ?_)) (fun _ _ _ => rfl))
    by_cases ex : x = t
    · rw [ex, pk_us, h3]
      exact ⟨fun z => absurd z (nI_ne0 (by omega) (by omega)), fun z => absurd z (nI_ne0 (by omega) (by omega))⟩
    · rw [pk_un ex]
theorem ic_leaveSlot (h : ic_C Z E a1 a2 a3 a4 a5) (hk : k0 < 32) (hZ : ∀ k, k < 32 → Z' k → k = k0 ∨ Z k) (hE0 : ∀ j, j < 4 → E' k0 j = none) (hE : ∀ k j, k < 32 → j < 4 → k ≠ k0 → E' k j = E k j) (hp : ∀ a3' a5', ic_C Z' E' (upd a1 k0 (-1)) a2 a3' a4 a5' → post (im, sh, a1, a2, a3', a4, a5', a6, a7, a8)) : wpX_leaveTable post (im, sh, a1, a2, a3, a4, a5, a6, a7, a8) (a1 k0) := by
  have key : ∀ a3' a5', ic_T (upd a1 k0 (-1)) a3' → ic_S (ic_U a3') a2 a5' → post (im, sh, a1, a2, a3', a4, a5', a6, a7, a8) := fun a3' a5' hT hS => hp a3' a5' (ic_C_set h (Or.inl rfl) hT hS (fun k hk z => by
    by_cases e : k = k0
    · exact Or.inl ⟨e, rfl⟩
    · exact Or.inr ⟨e, (hZ k hk z).resolve_left e⟩) (fun j hj => by
    rw [ic_ent_n pk_us, hE0 j hj]
    exact Or.inl ⟨rfl, rfl⟩) hE)
  rcases h.1 k0 hk with e | ⟨t, ht, e⟩
  · rw [e]
    refine br_f (by decide) (key a3 a5 (ic_T_congr h.2.1 (fun x hx => ?_) (fun _ _ => rfl)) h.2.2.1)
    by_cases ex : x = k0
    · rw [ex, pk_us, e]
    · rw [pk_un ex]
  · obtain ⟨m, hm, e3⟩ := ic_T_pos h.2.1 hk ht e
    rw [e]
    exact ic_leaveTable ht hm e3 h.2.2.1 (fun j hj => ic_C_rg h hk ht e hj) (fun a5' hS => key _ _ (ic_T_out h.2.1 hk ht e e3 hm) hS)
theorem ic_clearTable (h : ic_C Z E a1 a2 a3 a4 a5) (hf : f < 8) (hZ : ∀ k, k < 32 → Z' k → k / 4 = f ∨ Z k) (hE : ∀ k j, k < 32 → j < 4 → E' k j = if k / 4 = f then none else E k j) (hp : ∀ a1' a3' a5', ic_C Z' E' a1' a2 a3' a4 a5' → post (im, sh, a1', a2, a3', a4, a5', a6, a7, a8)) : wpX_clearTable post (im, sh, a1, a2, a3, a4, a5, a6, a7, a8) (nI f) := by
  refine pk_loop (σ := (Nat → Int32) × (Nat → Int32) × (Nat → Int32)) (fun n i s => wX_clearTable_2 post (nI f) n (nI i) im sh s.1 a2 s.2.1 a4 s.2.2 a6 a7 a8) (fun i s => ic_C (fun k => Z k ∨ (4 * f ≤ k ∧ k < 4 * f + i)) (fun k j => if 4 * f ≤ k ∧ k < 4 * f + i then none else E k j) s.1 a2 s.2.1 a4 s.2.2) 4 0 (a1, a3, a5) (by omega) (ic_C_w h (fun k hk z => z.resolve_right (by omega)) (fun k j hk hj => if_neg (by omega))) ?_ ?_
  · intro n s hI
    refine pk_le 4 4 (fun _ => hp _ _ _ (ic_C_w hI (fun k hk z => ?_) (fun k j hk hj => ?_))) (fun z => absurd z (by omega))
    · rcases hZ k hk z with e | e
      · exact Or.inr (by omega)
      · exact Or.inl e
    · rw [hE k j hk hj]
      by_cases e : k / 4 = f
      · rw [if_pos e, if_pos (by omega)]
      · rw [if_neg e, if_neg (by omega)]
  · intro n i s hi hI hw
    refine pk_le 4 i (fun z => absurd z (by omega)) (fun _ => ⟨pk_in (4 * f + i) 32 (by omega) (ic_ix f i), ?_⟩)
    rw [pk_cl (4 * f + i) (ic_ix f i)]
    refine ic_leaveSlot hI (k0 := 4 * f + i) (Z' := fun k => Z k ∨ (4 * f ≤ k ∧ k < 4 * f + (i + 1))) (E' := fun k j => if 4 * f ≤ k ∧ k < 4 * f + (i + 1) then none else E k j) (by omega) (fun k hk z => ?_) (fun j hj => if_pos (by omega)) (fun k j hk hj ne => ?_) (fun a3' a5' hC => ⟨pk_in (4 * f + i) 32 (by omega) (ic_ix f i), nm_e (nm_r (nI_1 i) (hw (upd s.1 (4 * f + i) (-1), a3', a5') hC))⟩)
    · by_cases e : k = 4 * f + i
      · exact Or.inl e
      · exact Or.inr (z.elim Or.inl (fun y => Or.inr (by omega)))
    · by_cases e : 4 * f ≤ k ∧ k < 4 * f + i
      · rw [if_pos e, if_pos (by omega)]
      · rw [if_neg e, if_neg (by omega)]
theorem ic_share (h : ic_C Z E a1 a2 a3 a4 a5) (hf : f < 8) (hg : g < 8) (hfg : f ≠ g) (hz : ∀ k, k < 32 → k / 4 = f → Z k) (hZ : ∀ k, k < 32 → Z' k → k / 4 ≠ f ∧ Z k) (hE : ∀ k j, k < 32 → j < 4 → E' k j = if k / 4 = f then E (4 * g + k % 4) j else E k j) (hp : ∀ a1' a3', ic_C Z' E' a1' a2 a3' a4 a5 → post (im, sh, a1', a2, a3', a4, a5, a6, a7, a8)) : wpX_share post (im, sh, a1, a2, a3, a4, a5, a6, a7, a8) (nI f) (nI g) := by
  refine pk_loop (σ := (Nat → Int32) × (Nat → Int32)) (fun n i s => wX_share_2 post (nI f) (nI g) im sh n (nI i) s.1 a2 s.2 a4 a5 a6 a7 a8) (fun i s => ic_C (fun k => Z k ∧ ¬ (4 * f ≤ k ∧ k < 4 * f + i)) (fun k j => if 4 * f ≤ k ∧ k < 4 * f + i then E (4 * g + k % 4) j else E k j) s.1 a2 s.2 a4 a5) 4 0 (a1, a3) (by omega) (ic_C_w h (fun k hk z => z.1) (fun k j hk hj => if_neg (by omega))) ?_ ?_
  · intro n s hI
    refine pk_le 4 4 (fun _ => hp _ _ (ic_C_w hI (fun k hk z => ?_) (fun k j hk hj => ?_))) (fun z => absurd z (by omega))
    · have := hZ k hk z
      exact ⟨this.2, by omega⟩
    · rw [hE k j hk hj]
      by_cases e : k / 4 = f
      · rw [if_pos e, if_pos (by omega)]
      · rw [if_neg e, if_neg (by omega)]
  · intro n i s hi hI hw
    have S := ic_C_share hI (k0 := 4 * f + i) (k := 4 * g + i) (Z' := fun k => Z k ∧ ¬ (4 * f ≤ k ∧ k < 4 * f + (i + 1))) (E' := fun k j => if 4 * f ≤ k ∧ k < 4 * f + (i + 1) then E (4 * g + k % 4) j else E k j) (by omega) (by omega) ⟨hz _ (by omega) (by omega), by omega⟩ (fun x hx z => ⟨by omega, z.1, by omega⟩) (fun j hj => by
      rw [if_pos (by omega), if_neg (by omega), show 4 * g + (4 * f + i) % 4 = 4 * g + i by omega]) (fun x j hx hj ne => by
      by_cases e : 4 * f ≤ x ∧ x < 4 * f + i
      · rw [if_pos e, if_pos (by omega)]
      · rw [if_neg e, if_neg (by omega)])
    refine pk_le 4 i (fun z => absurd z (by omega)) (fun _ => ⟨pk_in (4 * g + i) 32 (by omega) (ic_ix g i), nm_r (e' := s.1 (4 * g + i)) (by rw [pk_cl (4 * g + i) (ic_ix g i)]) ?_⟩)
    rcases hI.1 (4 * g + i) (by omega) with e | ⟨t, ht, e⟩
    · exact br_t (by rw [e]; decide) ⟨pk_in (4 * f + i) 32 (by omega) (ic_ix f i), nm_r (e' := upd s.1 (4 * f + i) (-1)) (by rw [pk_cl (4 * f + i) (ic_ix f i), e]) (nm_r (nI_1 i) (hw (upd s.1 (4 * f + i) (-1), s.2) (S.1 e)))⟩
    · exact br_f (by rw [e]; exact nI_pos (by omega)) ⟨pk_in t 36 ht e, pk_in t 36 ht e, nm_r (e' := upd s.2 t (s.2 t + 1)) (by rw [e, nI_clamp (by omega)]) ⟨pk_in (4 * f + i) 32 (by omega) (ic_ix f i), nm_r (e' := upd s.1 (4 * f + i) (nI t)) (by rw [pk_cl (4 * f + i) (ic_ix f i), e]) (nm_r (nI_1 i) (hw (upd s.1 (4 * f + i) (nI t), upd s.2 t (s.2 t + 1)) (S.2 t ht e)))⟩⟩
theorem ic_freshTable (hx : ∃ t, t < 36 ∧ a3 t = 0) (hp : ∀ t, t < 36 → a3 t = 0 → ps (nI t) (im, sh, a1, a2, upd a3 t 1, a4, a5, a6, a7, a8)) : wpX_freshTable ps (im, sh, a1, a2, a3, a4, a5, a6, a7, a8) := by
  have Q : ∀ i t, t < 36 → i ≤ 36 → ((∀ k, i ≤ k → k < 36 → ¬ a3 k = 0) ∨ a3 t = 0) → wX_freshTable_5 ps im sh a1 a2 a3 a4 a5 a6 a7 a8 (i + 1) (nI t) (nI i + (-1)) := by
    intro i
    induction i with
    | zero =>
      intro t ht _ hI
      have h0 : a3 t = 0 := by
        rcases hI with hI | hI
        · obtain ⟨x, hx1, hx2⟩ := hx
          exact absurd hx2 (hI x (by omega) hx1)
        · exact hI
      exact br_t (by decide) ⟨pk_in t 36 ht, nm_r (e' := upd a3 t 1) (by rw [nI_clamp (by omega)]) (hp t ht h0)⟩
    | succ i ih =>
      intro t ht hi hI
      rw [pk_m1]
      refine br_f (nI_pos (by omega)) ⟨pk_in i 36 (by omega), ?_⟩
      rw [nI_clamp (show i < 2 ^ 31 by omega)]
      refine br_c (fun e => nm_e (ih i (by omega) (by omega) (Or.inr e))) (fun e => nm_e (ih t ht (by omega) ?_))
      rcases hI with hI | hI
      · refine Or.inl (fun k h1 h2 => ?_)
        by_cases ek : k = i
        · rw [ek]; exact e
        · exact hI k (by omega) h2
      · exact Or.inr hI
  have Q36 := Q 36 0 (by omega) (by omega) (Or.inl (fun k h1 h2 => absurd h1 (by omega)))
  rw [show nI 36 + (-1) = (35 : Int32) by decide] at Q36
  exact ⟨37, Q36⟩
theorem ic_freshPlace (hx : ∃ t, t < 132 ∧ a5 t = 0) (hp : ∀ t, t < 132 → a5 t = 0 → ps (nI t) (im, sh, a1, a2, a3, upd a4 t w, upd a5 t 1, a6, a7, a8)) : wpX_freshPlace ps (im, sh, a1, a2, a3, a4, a5, a6, a7, a8) w := by
  have Q : ∀ i t, t < 132 → i ≤ 132 → ((∀ k, i ≤ k → k < 132 → ¬ a5 k = 0) ∨ a5 t = 0) → wX_freshPlace_6 ps w im sh a1 a2 a3 a4 a5 a6 a7 a8 (i + 1) (nI t) (nI i + (-1)) := by
    intro i
    induction i with
    | zero =>
      intro t ht _ hI
      have h0 : a5 t = 0 := by
        rcases hI with hI | hI
        · obtain ⟨x, hx1, hx2⟩ := hx
          exact absurd hx2 (hI x (by omega) hx1)
        · exact hI
      exact br_t (by decide) ⟨pk_in t 132 ht, nm_r (e' := upd a5 t 1) (by rw [nI_clamp (by omega)]) ⟨pk_in t 132 ht, nm_r (e' := upd a4 t w) (by rw [nI_clamp (by omega)]) (hp t ht h0)⟩⟩
    | succ i ih =>
      intro t ht hi hI
      rw [pk_m1]
      refine br_f (nI_pos (by omega)) ⟨pk_in i 132 (by omega), ?_⟩
      rw [nI_clamp (show i < 2 ^ 31 by omega)]
      refine br_c (fun e => nm_e (ih i (by omega) (by omega) (Or.inr e))) (fun e => nm_e (ih t ht (by omega) ?_))
      rcases hI with hI | hI
      · refine Or.inl (fun k h1 h2 => ?_)
        by_cases ek : k = i
        · rw [ek]; exact e
        · exact hI k (by omega) h2
      · exact Or.inr hI
  have Q36 := Q 132 0 (by omega) (by omega) (Or.inl (fun k h1 h2 => absurd h1 (by omega)))
  rw [show nI 132 + (-1) = (131 : Int32) by decide] at Q36
  exact ⟨133, Q36⟩
end
end
section
section
variable {po : Int32 → Prop} {post : St1 → Prop} {ps : Int32 → St1 → Prop} {im sh : Int32} {U U' Z Z' : Nat → Prop} {E E' : Nat → Nat → Option Int32} {a1 a2 a3 a4 a5 a6 a7 a8 : Nat → Int32} {f g c k k0 j t n m p q i : Nat} {r w : Int32}
theorem ic_own35 (h : ic_C Z E a1 a2 a3 a4 a5) (hk : k0 < 32) (hz : ¬ Z k0) (hns : ∀ t, t < 36 → a1 k0 = nI t → ¬ a3 t = 1) (hp : ∀ t a1' a2' a3' a5', t < 36 → ic_C Z E a1' a2' a3' a4 a5' → a1' k0 = nI t → a3' t = 1 → (∀ j, j < 4 → a2' (4 * t + j) = ic_ent a1 a2 k0 j) → ps (nI t) (im, sh, a1', a2', a3', a4, a5', a6, a7, a8)) : wX_ownTable_35 ps (nI k0) (a1 k0) im sh a1 a2 a3 a4 a5 a6 a7 a8 := by
  refine ic_freshTable (ic_freeT h.2.1) (fun m hm h0 => ?_)
  show ∃ fu, wX_ownTable_44 ps (nI k0) (a1 k0) (nI m) im sh fu 0 a1 a2 (upd a3 m 1) a4 a5 a6 a7 a8
  have tm : ∀ t, t < 36 → a1 k0 = nI t → t ≠ m := fun t ht e z => ic_T_nz h.2.1 hk ht e (by rw [z]; exact h0)
  have Um : ∀ q, q < 144 → (ic_U (upd a3 m 1) q ↔ ic_U a3 q ∨ (4 * m ≤ q ∧ q < 4 * m + 4)) := by
    intro q hq
    unfold ic_U
    by_cases c : q / 4 = m
    · rw [c, pk_us]
      exact ⟨fun _ => Or.inr ⟨by omega, by omega⟩, fun _ => by decide⟩
    · rw [pk_un c]
      exact ⟨Or.inl, fun z => z.resolve_right (by omega)⟩
  refine pk_loop (σ := (Nat → Int32) × (Nat → Int32)) (fun n i s => wX_ownTable_44 ps (nI k0) (a1 k0) (nI m) im sh n (nI i) a1 s.1 (upd a3 m 1) a4 s.2 a6 a7 a8) (fun i s => (∀ j, j < i → s.1 (4 * m + j) = ic_ent a1 a2 k0 j) ∧ (∀ q, ¬ (4 * m ≤ q ∧ q < 4 * m + i) → s.1 q = a2 q) ∧ ic_S (fun q => ic_U a3 q ∨ (4 * m ≤ q ∧ q < 4 * m + i)) s.1 s.2) 4 0 (a2, a5) (by omega) ⟨fun j hj => absurd hj (by omega), fun _ _ => rfl, ic_S_congr h.2.2.1 (fun q hq => ⟨fun z => z.resolve_right (by omega), Or.inl⟩) (fun _ _ _ => rfl)⟩ ?_ ?_
  · intro n s hI
    obtain ⟨h1, h2, h3⟩ := hI
    refine pk_le 4 4 (fun _ => ?_) (fun z => absurd z (by omega))
    have S1 : ic_S (ic_U (upd a3 m 1)) s.1 s.2 := ic_S_congr h3 Um (fun _ _ _ => rfl)
    rcases h.1 k0 hk with e | ⟨t, ht, e⟩
    · rw [e]
      have T1 : ic_T (upd a1 k0 (nI m)) (upd a3 m 1) := ic_T_in (n := 0) h.2.1 hk hm e (by rw [h0]; rfl) (by omega)
      exact br_f (by decide) ⟨pk_in k0 32 hk, nm_r (e' := upd a1 k0 (nI m)) (by rw [nI_clamp (by omega)]) (hp m _ _ _ _ hm (ic_C_own h hk hz hm h0 T1 S1 h1 h2) pk_us pk_us h1)⟩
    · obtain ⟨n', hn', e3⟩ := ic_T_pos h.2.1 hk ht e
      have ne := tm t ht e
      have n0 : n' ≠ 0 := by
        intro z
        rw [z] at e3
        exact hns t ht e e3
      obtain ⟨n2, rfl⟩ := Nat.exists_eq_succ_of_ne_zero n0
      have T1 := ic_T_out h.2.1 hk ht e e3 hn'
      have T2 := ic_T_in (n := 0) (t := m) T1 hk hm pk_us (by rw [pk_un (fun z => ne z.symm), h0]; rfl) (by omega)
      have T3 : ic_T (upd a1 k0 (nI m)) (upd (upd a3 m 1) t (nI (n2 + 1))) := by
        refine ic_T_congr T2 (fun x hx => ?_) (fun x hx => ?_)
        · by_cases ex : x = k0
          · rw [ex, pk_us, pk_us]
          · rw [pk_un ex, pk_un ex, pk_un ex]
        · by_cases ex : x = t
          · rw [ex, pk_us, pk_un ne, pk_us]
          · rw [pk_un ex]
            by_cases em : x = m
            · rw [em, pk_us, pk_us]; rfl
            · rw [pk_un em, pk_un em, pk_un ex]
      rw [e]
      refine ic_leaveTable ht hn' (by rw [pk_un ne]; exact e3) S1 (fun j hj => ?_) (fun a5' hS => ⟨pk_in k0 32 hk, nm_r (e' := upd a1 k0 (nI m)) (by rw [nI_clamp (by omega)]) (hp m _ _ _ _ hm (ic_C_own h hk hz hm h0 T3 hS h1 h2) pk_us (by rw [pk_un (fun z => ne z.symm), pk_us]) h1)⟩)
      rw [h2 _ (by omega)]
      exact ic_C_rg h hk ht e hj
  · intro n i s hi hI hw
    obtain ⟨h1, h2, h3⟩ := hI
    refine pk_le 4 i (fun z => absurd z (by omega)) (fun _ => ?_)
    have nU : ¬ (ic_U a3 (4 * m + i) ∨ (4 * m ≤ 4 * m + i ∧ 4 * m + i < 4 * m + i)) := by
      intro z
      refine z.resolve_right (by omega) ?_
      rw [show (4 * m + i) / 4 = m by omega]
      exact h0
    have key : ∀ r, r = ic_ent a1 a2 k0 i → wX_ownTable_71 ps (wX_ownTable_44 ps (nI k0) (a1 k0) (nI m) im sh n) (nI k0) (a1 k0) (nI m) (nI i) r im sh a1 s.1 (upd a3 m 1) a4 s.2 a6 a7 a8 := by
      intro r er
      have rg : ic_rg r := by rw [er]; exact ic_ev_rg (h.2.2.2.2 k0 i hk hi)
      have I1 : ∀ j, j < i + 1 → upd s.1 (4 * m + i) r (4 * m + j) = ic_ent a1 a2 k0 j := by
        intro j hj
        by_cases ej : j = i
        · rw [ej, pk_us, er]
        · rw [pk_un (by omega)]
          exact h1 j (by omega)
      have I2 : ∀ q, ¬ (4 * m ≤ q ∧ q < 4 * m + (i + 1)) → upd s.1 (4 * m + i) r q = a2 q := by
        intro q hq
        rw [pk_un (by omega)]
        exact h2 q (by omega)
      have hU : ∀ q, q < 144 → ((ic_U a3 q ∨ (4 * m ≤ q ∧ q < 4 * m + (i + 1))) ↔ (ic_U a3 q ∨ (4 * m ≤ q ∧ q < 4 * m + i)) ∨ q = 4 * m + i) := by
        intro q hq
        constructor
        · intro z
          rcases z with z | z
          · exact Or.inl (Or.inl z)
          · by_cases eq : q = 4 * m + i
            · exact Or.inr eq
            · exact Or.inl (Or.inr (by omega))
        · intro z
          rcases z with (z | z) | z
          · exact Or.inl z
          · exact Or.inr (by omega)
          · exact Or.inr (by omega)
      have ne : ∀ x, (ic_U a3 x ∨ (4 * m ≤ x ∧ x < 4 * m + i)) → x ≠ 4 * m + i := fun x hx z => nU (by rw [z] at hx; exact hx)
      refine ⟨pk_in (4 * m + i) 144 (by omega) (ic_ix m i), nm_r (e' := upd s.1 (4 * m + i) r) (by rw [pk_cl (4 * m + i) (ic_ix m i)]) ?_⟩
      have low : (r = -1 ∨ r = -2) → r < 0 → wX_ownTable_44 ps (nI k0) (a1 k0) (nI m) im sh n (nI (i + 1)) a1 (upd s.1 (4 * m + i) r) (upd a3 m 1) a4 s.2 a6 a7 a8 := fun e _ =>
        hw (upd s.1 (4 * m + i) r, s.2) ⟨I1, I2, ic_S_congr (ic_S_in' h3 (a2' := upd s.1 (4 * m + i) r) (q := 4 * m + i) (by rw [pk_us]; exact e) (fun x _ hx _ => pk_un hx) nU) hU (fun _ _ _ => rfl)⟩
      rcases rg with e | e | ⟨p, hp', e⟩
      · have hl : r < 0 := by rw [e]; decide
        exact br_t hl (nm_r (nI_1 i) (low (Or.inl e) hl))
      · have hl : r < 0 := by rw [e]; decide
        exact br_t hl (nm_r (nI_1 i) (low (Or.inr e) hl))
      · refine br_f (by rw [e]; exact nI_pos (by omega)) ⟨pk_in p 132 hp' e, pk_in p 132 hp' e, nm_r (e' := upd s.2 p (s.2 p + 1)) (by rw [e, nI_clamp (by omega)]) (nm_r (nI_1 i) ?_)⟩
        exact hw (upd s.1 (4 * m + i) r, upd s.2 p (s.2 p + 1)) ⟨I1, I2, ic_S_congr (ic_S_in h3 (a2' := upd s.1 (4 * m + i) r) (q := 4 * m + i) (by omega) nU hp' (by rw [pk_us]; exact e) (fun x _ hx => pk_un (ne x hx))) hU (fun _ _ _ => rfl)⟩
    rcases h.1 k0 hk with e | ⟨t, ht, e⟩
    · exact br_f (by rw [e]; decide) (key (-1) (ic_ent_n e).symm)
    · have nt := tm t ht e
      have ei : a1 k0 * 4 + nI i = nI (4 * t + i) := by rw [e, ic_ix]
      refine br_t (by rw [e]; exact nI_pos' (by omega)) ⟨pk_in (4 * t + i) 144 (by omega) ei, key _ ?_⟩
      rw [pk_cl (4 * t + i) ei, h2 _ (by omega), ic_ent_s ht e]
theorem ic_ownTable (h : ic_C Z E a1 a2 a3 a4 a5) (hf : f < 8) (hc : c < 16) (hz : ¬ Z (4 * f + c / 4)) (hp : ∀ t a1' a2' a3' a5', t < 36 → ic_C Z E a1' a2' a3' a4 a5' → a1' (4 * f + c / 4) = nI t → a3' t = 1 → a2' (4 * t + c % 4) = ic_ent a1 a2 (4 * f + c / 4) (c % 4) → ps (nI t) (im, sh, a1', a2', a3', a4, a5', a6, a7, a8)) : wpX_ownTable ps (im, sh, a1, a2, a3, a4, a5, a6, a7, a8) (nI f) (nI c) := by
  have hk : 4 * f + c / 4 < 32 := by omega
  refine nm_r (ic_ixc f hc) ⟨pk_in (4 * f + c / 4) 32 hk, nm_r (e' := a1 (4 * f + c / 4)) (by rw [nI_clamp (by omega)]) ?_⟩
  have k35 : (∀ t, t < 36 → a1 (4 * f + c / 4) = nI t → ¬ a3 t = 1) → wX_ownTable_35 ps (nI (4 * f + c / 4)) (a1 (4 * f + c / 4)) im sh a1 a2 a3 a4 a5 a6 a7 a8 := fun hns =>
    ic_own35 h hk hz hns (fun t a1' a2' a3' a5' ht hC e1 e3 e2 => hp t a1' a2' a3' a5' ht hC e1 e3 (e2 _ (by omega)))
  rcases h.1 _ hk with e | ⟨t, ht, e⟩
  · exact br_t (by rw [e]; decide) (k35 (fun t ht e' => absurd (e'.symm.trans e) (ic_m1 (by omega))))
  · refine br_f (by rw [e]; exact nI_pos (by omega)) ⟨pk_in t 36 ht e, ?_⟩
    by_cases e3 : a3 t = 1
    · refine br_t (by rw [e, nI_clamp (by omega)]; exact e3) ?_
      rw [e]
      exact hp t a1 a2 a3 a5 ht h e e3 (ic_ent_s ht e).symm
    · refine br_f (by rw [e, nI_clamp (by omega)]; exact e3) (k35 (fun t' ht' e' => ?_))
      rw [← ic_inj (by omega) (by omega) (e.symm.trans e')]
      exact e3
theorem ic_upd_id {a : Nat → Int32} (h : a q = r) : upd a q r = a := by
  funext x
  by_cases e : x = q
  · rw [e, pk_us, h]
  · rw [pk_un e]
theorem ic_say (h : ic_C Z E a1 a2 a3 a4 a5) (hf : f < 8) (hc : c < 16) (hz : ¬ Z (4 * f + c / 4)) (hE : ∀ k j, k < 32 → j < 4 → E' k j = if k = 4 * f + c / 4 ∧ j = c % 4 then some w else E k j) (hp : ∀ a1' a2' a3' a4' a5', ic_C Z E' a1' a2' a3' a4' a5' → post (im, sh, a1', a2', a3', a4', a5', a6, a7, a8)) : wpX_say post (im, sh, a1, a2, a3, a4, a5, a6, a7, a8) (nI f) (nI c) w := by
  refine ic_ownTable h hf hc hz (fun t b1 b2 b3 b5 ht hC e1 e3 _ => ?_)
  have hk : 4 * f + c / 4 < 32 := by omega
  have hj : c % 4 < 4 := by omega
  have hq : 4 * t + c % 4 < 144 := by omega
  have rg := ic_C_rg hC hk ht e1 hj
  have hu := ic_T_U hC.2.1 hk ht e1 hj
  have fin : ∀ b2' b4' b5', ic_C Z (fun k j => if k = 4 * f + c / 4 ∧ j = c % 4 then some w else E k j) b1 b2' b3 b4' b5' → post (im, sh, b1, b2', b3, b4', b5', a6, a7, a8) := fun b2' b4' b5' hc' => hp _ _ _ _ _ (ic_C_w hc' (fun _ _ z => z) hE)
  refine nm_r (ic_ixm t hc) ⟨pk_in (4 * t + c % 4) 144 hq, nm_r (e' := b2 (4 * t + c % 4)) (by rw [nI_clamp (by omega)]) ?_⟩
  have k56 : wX_say_56 post w (nI (4 * t + c % 4)) (b2 (4 * t + c % 4)) im sh b1 b2 b3 a4 b5 a6 a7 a8 := by
    refine ic_leavePlace hC.2.2.1 (q := 4 * t + c % 4) hq hu rg rfl (fun b5' hS => ?_)
    have back : ∀ x, x < 144 → (ic_U b3 x ↔ (ic_U b3 x ∧ x ≠ 4 * t + c % 4) ∨ x = 4 * t + c % 4) := by
      intro x hx
      constructor
      · intro z
        by_cases e : x = 4 * t + c % 4
        · exact Or.inr e
        · exact Or.inl ⟨z, e⟩
      · intro z
        rcases z with z | z
        · exact z.1
        · rw [z]; exact hu
    refine br_c (fun e0 => ⟨pk_in (4 * t + c % 4) 144 hq, nm_r (e' := upd b2 (4 * t + c % 4) (-2)) (by rw [nI_clamp (by omega)]) (fin _ _ _ ?_)⟩) (fun e0 => ic_freshPlace (ic_freeP hC.2.1 hS (fun q hq u => u.1)) (fun p hp' h0 => ⟨pk_in (4 * t + c % 4) 144 hq, nm_r (e' := upd b2 (4 * t + c % 4) (nI p)) (by rw [nI_clamp (by omega)]) (fin _ _ _ ?_)⟩))
    · refine ic_C_put hC hk ht e1 e3 hj (ic_S_congr (ic_S_in' hS (a2' := upd b2 (4 * t + c % 4) (-2)) (Or.inr pk_us) (fun x _ hx _ => pk_un hx) (fun z => z.2 rfl)) back (fun _ _ _ => rfl)) (Or.inr (Or.inl ⟨rfl, by rw [e0]⟩)) (fun _ _ _ _ _ _ _ => rfl)
    · have hS2 := ic_S_in hS (q := 4 * t + c % 4) (a2' := upd b2 (4 * t + c % 4) (nI p)) hq (fun z => z.2 rfl) hp' pk_us (fun x _ hx => pk_un hx.2)
      rw [h0, show (0 : Int32) + 1 = 1 from rfl] at hS2
      refine ic_C_put hC hk ht e1 e3 hj (ic_S_congr hS2 back (fun _ _ _ => rfl)) (Or.inr (Or.inr ⟨p, hp', rfl, by rw [pk_us]⟩)) (fun q p' hq' uq nq hp'' eq => pk_un (fun z => ?_))
      rw [z] at eq
      exact ic_S_free hS hp' h0 hq' ⟨uq, nq⟩ eq
  refine br_c (fun _ => k56) (fun hw => ?_)
  rcases rg with e | e | ⟨p, hp', e⟩
  · exact br_t (by rw [e]; decide) k56
  · exact br_t (by rw [e]; decide) k56
  · refine br_f (by rw [e]; exact nI_pos (by omega)) ⟨pk_in p 132 hp' e, br_c (fun e5 => ⟨pk_in p 132 hp' e, nm_r (e' := upd a4 p w) (by rw [e, nI_clamp (by omega)]) (fin b2 (upd a4 p w) b5 ?_)⟩) (fun _ => k56)⟩
    rw [e, nI_clamp (by omega)] at e5
    have c2 := ic_C_put hC hk ht e1 e3 hj (v := nI p) (o := some w) (a4' := upd a4 p w) (a5' := b5) (by rw [ic_upd_id e]; exact hC.2.2.1) (Or.inr (Or.inr ⟨p, hp', rfl, by rw [pk_us]⟩)) (fun q p' hq' uq nq hp'' eq => pk_un (fun z => by
      rw [z] at eq
      exact nq (ic_S_one hC.2.2.1 hp' e5 hq' hq uq hu eq e)))
    rw [ic_upd_id e] at c2
    exact c2
theorem ic_sayNothing (h : ic_C Z E a1 a2 a3 a4 a5) (hf : f < 8) (hc : c < 16) (hz : ¬ Z (4 * f + c / 4)) (hE : ∀ k j, k < 32 → j < 4 → E' k j = if k = 4 * f + c / 4 ∧ j = c % 4 then none else E k j) (hp : ∀ a1' a2' a3' a4' a5', ic_C Z E' a1' a2' a3' a4' a5' → post (im, sh, a1', a2', a3', a4', a5', a6, a7, a8)) : wpX_sayNothing post (im, sh, a1, a2, a3, a4, a5, a6, a7, a8) (nI f) (nI c) := by
  have hk : 4 * f + c / 4 < 32 := by omega
  have hj : c % 4 < 4 := by omega
  unfold wpX_sayNothing
  refine ic_entry h hf hc (fun r er hev => br_c (fun e => ?_) (fun e => ?_))
  · refine hp _ _ _ _ _ (ic_C_w h (fun _ _ z => z) (fun k j hk' hj' => ?_))
    rw [hE k j hk' hj']
    by_cases ek : k = 4 * f + c / 4 ∧ j = c % 4
    · rw [if_pos ek, ek.1, ek.2]
      rcases hev with z | z | ⟨p, hp', z, _⟩
      · exact z.2.symm
      · rw [z.1] at e
        exact absurd e (by decide)
      · rw [z] at e
        exact absurd e (ic_m1 (by omega))
    · rw [if_neg ek]
  · refine ic_ownTable h hf hc hz (fun t b1 b2 b3 b5 ht hC e1 e3 e2 => ?_)
    have hu := ic_T_U hC.2.1 hk ht e1 hj
    refine ic_leavePlace hC.2.2.1 (q := 4 * t + c % 4) (by omega) hu (ic_ev_rg hev) (e2.trans er.symm) (fun b5' hS => ⟨pk_in (4 * t + c % 4) 144 (by omega) (ic_ixm t hc), nm_r (e' := upd b2 (4 * t + c % 4) (-1)) (by rw [pk_cl _ (ic_ixm t hc)]) (hp _ _ _ _ _ (ic_C_w (ic_C_put hC hk ht e1 e3 hj (v := -1) (o := none) (a4' := a4) (ic_S_congr (ic_S_in' hS (q := 4 * t + c % 4) (a2' := upd b2 (4 * t + c % 4) (-1)) (Or.inl pk_us) (fun x _ hx _ => pk_un hx) (fun z => z.2 rfl)) (fun x hx => ?_) (fun _ _ _ => rfl)) (Or.inl ⟨rfl, rfl⟩) (fun _ _ _ _ _ _ _ => rfl)) (fun _ _ z => z) hE))⟩)
    constructor
    · intro z
      by_cases e : x = 4 * t + c % 4
      · exact Or.inr e
      · exact Or.inl ⟨z, e⟩
    · intro z
      rcases z with z | z
      · exact z.1
      · rw [z]; exact hu
/-! counting anew -/
theorem ic_Tn_n (h : ic_Tn i a1 a3) (e : a1 i = -1) : ic_Tn (i + 1) a1 a3 := fun t ht => by
  rw [h t ht, ic_n_f (show ¬ a1 i = nI t by rw [e]; exact fun z => ic_m1 (by omega) z.symm)]
theorem ic_Tn_s (h : ic_Tn i a1 a3) (ht : t < 36) (e : a1 i = nI t) : ic_Tn (i + 1) a1 (upd a3 t (a3 t + 1)) := fun x hx => by
  by_cases ex : x = t
  · rw [ex, pk_us, h t ht, ic_n_t (show a1 i = nI t from e), nI_1]
  · rw [pk_un ex, h x hx, ic_n_f (show ¬ a1 i = nI x by rw [e]; exact fun z => ex (ic_inj (by omega) (by omega) z.symm))]
theorem ic_countTable (hS : ic_S U a2 a5) (ht : t < 36) (hU : ∀ j, j < 4 → ¬ U (4 * t + j)) (hr : ∀ j, j < 4 → ic_rg (a2 (4 * t + j))) (hp : ∀ a5', ic_S (fun q => U q ∨ (4 * t ≤ q ∧ q < 4 * t + 4)) a2 a5' → post (im, sh, a1, a2, a3, a4, a5', a6, a7, a8)) : wpX_countTable post (im, sh, a1, a2, a3, a4, a5, a6, a7, a8) (nI t) := by
  refine pk_loop (fun n i s => wX_countTable_2 post (nI t) im sh n (nI i) a1 a2 a3 a4 s a6 a7 a8) (fun i s => ic_S (fun q => U q ∨ (4 * t ≤ q ∧ q < 4 * t + i)) a2 s) 4 0 a5 (by omega) (ic_S_congr hS (fun q hq => ⟨fun z => z.resolve_right (by omega), Or.inl⟩) (fun _ _ _ => rfl)) ?_ ?_
  · intro n s hI
    exact pk_le 4 4 (fun _ => hp s hI) (fun z => absurd z (by omega))
  · intro n i s hi hI hw
    have nU : ¬ (U (4 * t + i) ∨ (4 * t ≤ 4 * t + i ∧ 4 * t + i < 4 * t + i)) := fun z => hU i hi (z.resolve_right (by omega))
    have hU' : ∀ q, q < 144 → ((U q ∨ (4 * t ≤ q ∧ q < 4 * t + (i + 1))) ↔ (U q ∨ (4 * t ≤ q ∧ q < 4 * t + i)) ∨ q = 4 * t + i) := by
      intro q hq
      constructor
      · intro z
        rcases z with z | z
        · exact Or.inl (Or.inl z)
        · by_cases eq : q = 4 * t + i
          · exact Or.inr eq
          · exact Or.inl (Or.inr (by omega))
      · intro z
        rcases z with (z | z) | z
        · exact Or.inl z
        · exact Or.inr (by omega)
        · exact Or.inr (by omega)
    refine pk_le 4 i (fun z => absurd z (by omega)) (fun _ => ⟨pk_in (4 * t + i) 144 (by omega) (ic_ix t i), nm_r (e' := a2 (4 * t + i)) (by rw [pk_cl (4 * t + i) (ic_ix t i)]) ?_⟩)
    rcases hr i hi with e | e | ⟨p, hp', e⟩
    · exact br_t (by rw [e]; decide) (nm_r (nI_1 i) (hw s (ic_S_congr (ic_S_in' hI (q := 4 * t + i) (Or.inl e) (fun _ _ _ _ => rfl) nU) hU' (fun _ _ _ => rfl))))
    · exact br_t (by rw [e]; decide) (nm_r (nI_1 i) (hw s (ic_S_congr (ic_S_in' hI (q := 4 * t + i) (Or.inr e) (fun _ _ _ _ => rfl) nU) hU' (fun _ _ _ => rfl))))
    · exact br_f (by rw [e]; exact nI_pos (by omega)) ⟨pk_in p 132 hp' e, pk_in p 132 hp' e, nm_r (e' := upd s p (s p + 1)) (by rw [e, nI_clamp (by omega)]) (nm_r (nI_1 i) (hw (upd s p (s p + 1)) (ic_S_congr (ic_S_in hI (q := 4 * t + i) (by omega) nU hp' e (fun _ _ _ => rfl)) hU' (fun _ _ _ => rfl))))⟩
theorem ic_check (h : ic_C Z E a1 a2 a3 a4 a5) (hp : ∀ a3' a5', ic_C Z E a1 a2 a3' a4 a5' → ps 0 (im, sh, a1, a2, a3', a4, a5', a6, a7, a8)) : wpX_check ps (im, sh, a1, a2, a3, a4, a5, a6, a7, a8) := by
  have L3 : ∀ b3 b5, ic_Tn 0 a1 b3 → ic_S (ic_U b3) a2 b5 → ∃ fu, wX_check_45 ps fu 0 im sh a1 a2 b3 a4 b5 a6 a7 a8 := by
    intro b3 b5 hT hS
    refine pk_loop (σ := (Nat → Int32) × (Nat → Int32)) (fun n i s => wX_check_45 ps n (nI i) im sh a1 a2 s.1 a4 s.2 a6 a7 a8) (fun i s => ic_Tn i a1 s.1 ∧ ic_S (ic_U s.1) a2 s.2) 32 0 (b3, b5) (by omega) ⟨hT, hS⟩ ?_ ?_
    · intro n s hI
      exact pk_le 32 32 (fun _ => hp _ _ ⟨h.1, hI.1, hI.2, h.2.2.2.1, h.2.2.2.2⟩) (fun z => absurd z (by omega))
    · intro n i s hi hI hw
      refine pk_le 32 i (fun z => absurd z (by omega)) (fun _ => ⟨pk_in i 32 hi, nm_r (e' := a1 i) (by rw [nI_clamp (by omega)]) ?_⟩)
      rcases h.1 i hi with e | ⟨t, ht, e⟩
      · exact br_t (by rw [e]; decide) (nm_r (nI_1 i) (hw s ⟨ic_Tn_n hI.1 e, hI.2⟩))
      · have T2 := ic_Tn_s hI.1 ht e
        have b0 := ic_n_le (fun k => a1 k = nI t) i
        have e0 := hI.1 t ht
        have Ut : ∀ q, q < 144 → (ic_U (upd s.1 t (s.1 t + 1)) q ↔ ic_U s.1 q ∨ (4 * t ≤ q ∧ q < 4 * t + 4)) := by
          intro q hq
          unfold ic_U
          by_cases c : q / 4 = t
          · rw [c, pk_us, e0, nI_1]
            exact ⟨fun _ => Or.inr ⟨by omega, by omega⟩, fun _ => nI_ne0 (by omega) (by omega)⟩
          · rw [pk_un c]
            exact ⟨Or.inl, fun z => z.resolve_right (by omega)⟩
        refine br_f (by rw [e]; exact nI_pos (by omega)) ⟨pk_in t 36 ht e, ?_⟩
        by_cases c : s.1 t = 0
        · refine br_t (by rw [e, nI_clamp (by omega)]; exact c) ?_
          rw [e]
          refine ic_countTable hI.2 ht (fun j hj => ?_) (fun j hj => ic_C_rg h hi ht e hj) (fun a5' hS' => ⟨pk_in t 36 ht, pk_in t 36 ht, nm_r (e' := upd s.1 t (s.1 t + 1)) (by rw [nI_clamp (by omega)]) (nm_r (nI_1 i) (hw (upd s.1 t (s.1 t + 1), a5') ⟨T2, ic_S_congr hS' Ut (fun _ _ _ => rfl)⟩))⟩)
          show ¬ ¬ s.1 ((4 * t + j) / 4) = 0
          rw [show (4 * t + j) / 4 = t by omega]
          exact fun z => z c
        · refine br_f (by rw [e, nI_clamp (by omega)]; exact c) ⟨pk_in t 36 ht e, pk_in t 36 ht e, nm_r (e' := upd s.1 t (s.1 t + 1)) (by rw [e, nI_clamp (by omega)]) (nm_r (nI_1 i) (hw (upd s.1 t (s.1 t + 1), s.2) ⟨T2, ic_S_congr hI.2 (fun q hq => ?_) (fun _ _ _ => rfl)⟩))⟩
          rw [Ut q hq]
          refine ⟨fun z => z.elim id (fun y => ?_), Or.inl⟩
          show ¬ s.1 (q / 4) = 0
          rw [show q / 4 = t by omega]
          exact c
  have L2 : ∀ b3, (∀ t, t < 36 → b3 t = 0) → ∃ fu, wX_check_23 ps im sh fu 0 a1 a2 b3 a4 a5 a6 a7 a8 := by
    intro b3 h3
    refine pk_loop (fun n i s => wX_check_23 ps im sh n (nI i) a1 a2 b3 a4 s a6 a7 a8) (fun i s => ∀ p, p < i → s p = 0) 132 0 a5 (by omega) (fun p hp => absurd hp (by omega)) ?_ ?_
    · intro n s hI
      exact pk_le 132 132 (fun _ => L3 b3 s (fun t ht => by rw [h3 t ht]; rfl) (fun p hp' => by
        rw [hI p hp', ic_n_z (fun q hq z => z.1 (h3 (q / 4) (by omega)))]; rfl)) (fun z => absurd z (by omega))
    · intro n i s hi hI hw
      refine pk_le 132 i (fun z => absurd z (by omega)) (fun _ => ⟨pk_in i 132 hi, nm_r (e' := upd s i 0) (by rw [nI_clamp (by omega)]) (nm_r (nI_1 i) (hw (upd s i 0) (fun p hp' => ?_)))⟩)
      by_cases e : p = i
      · rw [e, pk_us]
      · rw [pk_un e]; exact hI p (by omega)
  refine pk_loop (fun n i s => wX_check_2 ps im sh n (nI i) a1 a2 s a4 a5 a6 a7 a8) (fun i s => ∀ p, p < i → s p = 0) 36 0 a3 (by omega) (fun p hp => absurd hp (by omega)) ?_ ?_
  · intro n s hI
    exact pk_le 36 36 (fun _ => L2 s hI) (fun z => absurd z (by omega))
  · intro n i s hi hI hw
    refine pk_le 36 i (fun z => absurd z (by omega)) (fun _ => ⟨pk_in i 36 hi, nm_r (e' := upd s i 0) (by rw [nI_clamp (by omega)]) (nm_r (nI_1 i) (hw (upd s i 0) (fun p hp' => ?_)))⟩)
    by_cases e : p = i
    · rw [e, pk_us]
    · rw [pk_un e]; exact hI p (by omega)
end
end
section
/-- the word of cluster c through the rows below n -/
def ic_w (E : Nat → Nat → Option Int32) (c : Nat) : Nat → Int32
  | 0 => 0
  | n + 1 => (E (4 * n + c / 4) (c % 4)).getD (ic_w E c n)
def ic_l (E : Nat → Nat → Option Int32) (n f c : Nat) : Int32 := (E (4 * f + c / 4) (c % 4)).getD (ic_w E c n)
def ic_mk (a6 : Nat → Int32) : Nat → Int32
  | 0 => 0
  | i + 1 => if a6 i = 0 then ic_mk a6 i else ic_mk a6 i + 1
def ic_bh (E : Nat → Nat → Option Int32) (n : Nat) (a6 a7 : Nat → Int32) : Nat → Int32
  | 0 => 0
  | i + 1 => if (if a6 i = 0 then a7 i else ic_w E i (n + 1)) = a7 i then ic_bh E n a6 a7 i else ic_bh E n a6 a7 i + 1
def ic_dg (E : Nat → Nat → Option Int32) (n : Nat) : Nat → Int32
  | 0 => 0
  | i + 1 => ic_dg E n i + (nI i + 1) * ic_w E i (n + 1)
def ic_bk6 (a6 : Nat → Int32) (i : Nat) : Nat → Int32 := fun c => if c < i then 0 else a6 c
def ic_bk7 (E : Nat → Nat → Option Int32) (n : Nat) (a6 a7 : Nat → Int32) (i : Nat) : Nat → Int32 := fun c => if c < i ∧ ¬ a6 c = 0 then ic_w E c (n + 1) else a7 c
def ic_mc (W0 : Nat → Int32) (E : Nat → Nat → Option Int32) (n : Nat) (a6 : Nat → Int32) (i : Nat) : Nat → Int32 := fun c => if c < i ∧ ¬ ic_w E c (n + 1) = W0 c then 1 else a6 c
section
variable {po : Int32 → Prop} {post : St1 → Prop} {ps : Int32 → St1 → Prop} {im sh : Int32} {Z : Nat → Prop} {E : Nat → Nat → Option Int32} {a1 a2 a3 a4 a5 a6 a7 a8 W0 : Nat → Int32} {f c n s hs : Nat} {r : Int32} {o : Option Int32}
theorem ic_wordOf (hev : ic_ev a4 r o) (hp : po (o.getD 0)) : wpX_wordOf po (im, sh, a1, a2, a3, a4, a5, a6, a7, a8) r := by
  rcases hev with ⟨e, eo⟩ | ⟨e, eo⟩ | ⟨p, hp', e, eo⟩
  · rw [eo] at hp
    exact br_f (by rw [e]; decide) hp
  · rw [eo] at hp
    exact br_f (by rw [e]; decide) hp
  · rw [eo] at hp
    rw [e]
    refine br_t (nI_pos' (by omega)) ⟨pk_in p 132 hp', ?_⟩
    rw [nI_clamp (by omega)]
    exact hp
theorem ic_ev_n (hev : ic_ev a4 r o) : r = -1 ↔ o = none := by
  rcases hev with ⟨e, eo⟩ | ⟨e, eo⟩ | ⟨p, hp', e, eo⟩
  · exact ⟨fun _ => eo, fun _ => e⟩
  · rw [e, eo]
    exact ⟨fun z => absurd z (by decide), fun z => absurd z (Option.some_ne_none _)⟩
  · rw [e, eo]
    exact ⟨fun z => absurd z (ic_m1 (by omega)), fun z => absurd z (Option.some_ne_none _)⟩
theorem ic_lookUp (h : ic_C Z E a1 a2 a3 a4 a5) (hn : n ≤ 3) (hf : f < 8) (hc : c < 16) (hp : po (ic_l E n f c)) : wpX_lookUp po (nI (n + 1), sh, a1, a2, a3, a4, a5, a6, a7, a8) (nI f) (nI c) := by
  have Q : ∀ i r o, i ≤ 3 → ic_ev a4 r o → po (o.getD (ic_w E c i)) → wX_lookUp_15 po (nI c) (nI (n + 1)) sh a1 a2 a3 a4 a5 a6 a7 a8 (i + 1) r (nI i + (-1)) := by
    intro i
    induction i with
    | zero =>
      intro r o _ hev hpo
      exact br_t (by decide) (ic_wordOf hev hpo)
    | succ i ih =>
      intro r o hi hev hpo
      rw [pk_m1]
      refine br_f (nI_pos (by omega)) (br_c (fun e => ?_) (fun e => ?_))
      · rw [(ic_ev_n hev).mp e] at hpo
        exact ic_entry h (by omega) hc (fun r' _ hev' => nm_e (ih r' _ (by omega) hev' hpo))
      · cases o with
        | none => exact absurd ((ic_ev_n hev).mpr rfl) e
        | some v => exact ic_wordOf hev hpo
  unfold wpX_lookUp
  refine ic_entry h hf hc (fun r _ hev => nm_r (e' := nI n + (-1)) ?_ ⟨n + 1, Q n r _ hn hev hp⟩)
  rw [nI_succ]
  grind
theorem ic_top (hp : po (nI n)) : wpX_top po (nI (n + 1), sh, a1, a2, a3, a4, a5, a6, a7, a8) := by
  show po (nI (n + 1) - 1)
  rw [nI_pred]
  exact hp
theorem ic_word (h : ic_C Z E a1 a2 a3 a4 a5) (hn : n ≤ 3) (hc : c < 16) (hp : po (ic_w E c (n + 1))) : wpX_word po (nI (n + 1), sh, a1, a2, a3, a4, a5, a6, a7, a8) (nI c) := by
  unfold wpX_word
  exact ic_top (ic_lookUp h hn (by omega) hc hp)
theorem ic_bad (hc : c < 16) (hp : po 0) : wpX_bad po (im, sh, a1, a2, a3, a4, a5, a6, a7, a8) (nI c) := br_f (nI_pos (by omega)) (br_t (nI_lt (b := 16) hc (by decide)) hp)
theorem ic_read (h : ic_C Z E a1 a2 a3 a4 a5) (hn : n ≤ 3) (hc : c < 16) (hp : po (ic_w E c (n + 1))) : wpX_read po (nI (n + 1), sh, a1, a2, a3, a4, a5, a6, a7, a8) (nI c) := by
  unfold wpX_read
  exact ic_bad hc (br_t rfl (ic_word h hn hc hp))
theorem ic_said (h : ic_C Z E a1 a2 a3 a4 a5) (hn : n ≤ 3) (hc : c < 16) (hp : po (if E (4 * n + c / 4) (c % 4) = none then 0 else 1)) : wpX_said po (nI (n + 1), sh, a1, a2, a3, a4, a5, a6, a7, a8) (nI c) := by
  unfold wpX_said
  refine ic_bad hc (br_t rfl (ic_top (ic_entry h (by omega) hc (fun r _ hev => ?_))))
  by_cases e : E (4 * n + c / 4) (c % 4) = none
  · rw [if_pos e] at hp
    exact br_t ((ic_ev_n hev).mpr e) hp
  · rw [if_neg e] at hp
    exact br_f (fun z => e ((ic_ev_n hev).mp z)) hp
theorem ic_saved (hc : c < 16) (hp : po (a7 c)) : wpX_saved po (im, sh, a1, a2, a3, a4, a5, a6, a7, a8) (nI c) := by
  unfold wpX_saved
  refine ic_bad hc (br_t rfl ⟨pk_in c 16 hc, ?_⟩)
  rw [nI_clamp (by omega)]
  exact hp
theorem ic_noShot (h1 : s < 100) (h2 : hs < 100) (ht : s < hs → po 0) (hf : hs ≤ s → po 1) : wpX_noShot po (im, nI hs, a1, a2, a3, a4, a5, a6, a7, a8) (nI s) := br_f (nI_pos (by omega)) (pk_lt s hs ht hf)
theorem ic_4 (s : Nat) : 4 + nI s = nI (4 + s) := nI_add 4 s
theorem ic_peek (h : ic_C Z E a1 a2 a3 a4 a5) (hn : n ≤ 3) (hsh : hs ≤ 4) (h1 : s < 4) (hc : c < 16) (hp : po (if s < hs then ic_l E n (4 + s) c else 0)) : wpX_peek po (nI (n + 1), nI hs, a1, a2, a3, a4, a5, a6, a7, a8) (nI s) (nI c) := by
  unfold wpX_peek
  refine ic_noShot (by omega) (by omega) (fun hl => br_t rfl (ic_bad hc (br_t rfl ?_))) (fun hl => br_f (by decide) ?_)
  · rw [if_pos hl] at hp
    rw [ic_4]
    exact ic_lookUp h hn (by omega) hc hp
  · rw [if_neg (by omega)] at hp
    exact hp
theorem ic_marked (hp : po (ic_mk a6 16)) : wpX_marked po (im, sh, a1, a2, a3, a4, a5, a6, a7, a8) := by
  refine pk_loop (σ := Unit) (fun n i _ => wX_marked_4 po im sh a1 a2 a3 a4 a5 a6 a7 a8 n (ic_mk a6 i) (nI i)) (fun _ _ => True) 16 0 () (by omega) trivial ?_ ?_
  · intro n s _
    exact pk_le 16 16 (fun _ => hp) (fun z => absurd z (by omega))
  · intro n i s hi _ hw
    refine pk_le 16 i (fun z => absurd z (by omega)) (fun _ => ⟨pk_in i 16 hi, ?_⟩)
    rw [nI_clamp (show i < 2 ^ 31 by omega)]
    have t := hw () trivial
    dsimp only [ic_mk] at t
    by_cases e : a6 i = 0
    · rw [if_pos e] at t
      exact br_t e (nm_r (nI_1 i) t)
    · rw [if_neg e] at t
      exact br_f e (nm_e (nm_r (nI_1 i) t))
theorem ic_behind (h : ic_C Z E a1 a2 a3 a4 a5) (hn : n ≤ 3) (hp : po (ic_bh E n a6 a7 16)) : wpX_behind po (nI (n + 1), sh, a1, a2, a3, a4, a5, a6, a7, a8) := by
  refine pk_loop (σ := Unit) (fun m i _ => wX_behind_4 po (nI (n + 1)) sh a1 a2 a3 a4 a5 a6 a7 a8 m (ic_bh E n a6 a7 i) (nI i)) (fun _ _ => True) 16 0 () (by omega) trivial ?_ ?_
  · intro m s _
    exact pk_le 16 16 (fun _ => hp) (fun z => absurd z (by omega))
  · intro m i s hi _ hw
    refine pk_le 16 i (fun z => absurd z (by omega)) (fun _ => ⟨pk_in i 16 hi, ?_⟩)
    have t := hw () trivial
    dsimp only [ic_bh] at t
    have key : ∀ z, z = (if a6 i = 0 then a7 i else ic_w E i (n + 1)) → wX_behind_33 po (wX_behind_4 po (nI (n + 1)) sh a1 a2 a3 a4 a5 a6 a7 a8 m) (ic_bh E n a6 a7 i) (nI i) z (nI (n + 1)) sh a1 a2 a3 a4 a5 a6 a7 a8 := by
      intro z ez
      refine ⟨pk_in i 16 hi, ?_⟩
      rw [nI_clamp (show i < 2 ^ 31 by omega)]
      rw [← ez] at t
      by_cases e : z = a7 i
      · rw [if_pos e] at t
        exact br_t e (nm_r (nI_1 i) t)
      · rw [if_neg e] at t
        exact br_f e (nm_e (nm_r (nI_1 i) t))
    rw [nI_clamp (show i < 2 ^ 31 by omega)]
    by_cases e : a6 i = 0
    · exact br_t e ⟨pk_in i 16 hi, key _ (if_pos e).symm⟩
    · exact br_f e (ic_word h hn hi (key _ (if_neg e).symm))
theorem ic_digest (h : ic_C Z E a1 a2 a3 a4 a5) (hn : n ≤ 3) (hp : po (ic_dg E n 16)) : wpX_digest po (nI (n + 1), sh, a1, a2, a3, a4, a5, a6, a7, a8) := by
  refine pk_loop (σ := Unit) (fun m i _ => wX_digest_4 po (nI (n + 1)) sh a1 a2 a3 a4 a5 a6 a7 a8 m (ic_dg E n i) (nI i)) (fun _ _ => True) 16 0 () (by omega) trivial ?_ ?_
  · intro m s _
    exact pk_le 16 16 (fun _ => hp) (fun z => absurd z (by omega))
  · intro m i s hi _ hw
    have t := hw () trivial
    exact pk_le 16 i (fun z => absurd z (by omega)) (fun _ => ic_word h hn hi (nm_e (nm_r (nI_1 i) t)))
theorem ic_backup (h : ic_C Z E a1 a2 a3 a4 a5) (hn : n ≤ 3) (hp : ∀ r, ¬ r < 0 → ps r (nI (n + 1), sh, a1, a2, a3, a4, a5, ic_bk6 a6 16, ic_bk7 E n a6 a7 16, a8)) : wpX_backup ps (nI (n + 1), sh, a1, a2, a3, a4, a5, a6, a7, a8) := by
  have e6 : ic_bk6 a6 0 = a6 := funext (fun c => if_neg (by omega))
  have e7 : ic_bk7 E n a6 a7 0 = a7 := funext (fun c => if_neg (by omega))
  have L := pk_loop (fun m i s => wX_backup_4 ps (nI (n + 1)) sh m (nI s) (nI i) a1 a2 a3 a4 a5 (ic_bk6 a6 i) (ic_bk7 E n a6 a7 i) a8) (fun i s => s ≤ i) 16 0 0 (by omega) (Nat.le_refl 0) ?_ ?_
  · rw [e6, e7] at L
    exact L
  · intro m s hI
    exact pk_le 16 16 (fun _ => hp _ (nI_pos (by omega))) (fun z => absurd z (by omega))
  · intro m i s hi hI hw
    refine pk_le 16 i (fun z => absurd z (by omega)) (fun _ => ⟨pk_in i 16 hi, ?_⟩)
    rw [nI_clamp (show i < 2 ^ 31 by omega), show ic_bk6 a6 i i = a6 i from if_neg (by omega)]
    by_cases e : a6 i = 0
    · have t := hw s (by omega)
      rw [show ic_bk6 a6 (i + 1) = ic_bk6 a6 i from funext (fun c => by
        unfold ic_bk6
        by_cases ec : c = i
        · rw [ec, if_pos (by omega), if_neg (by omega), e]
        · by_cases el : c < i
          · rw [if_pos el, if_pos (by omega)]
          · rw [if_neg el, if_neg (by omega)]), show ic_bk7 E n a6 a7 (i + 1) = ic_bk7 E n a6 a7 i from funext (fun c => by
        unfold ic_bk7
        by_cases ec : c = i
        · rw [ec, if_neg (fun z => z.2 e), if_neg (fun z => z.2 e)]
        · by_cases el : c < i ∧ ¬ a6 c = 0
          · rw [if_pos el, if_pos ⟨by omega, el.2⟩]
          · rw [if_neg el, if_neg (fun z => el ⟨by omega, z.2⟩)])] at t
      exact br_t e (nm_r (nI_1 i) t)
    · have t := hw (s + 1) (by omega)
      rw [show ic_bk6 a6 (i + 1) = upd (ic_bk6 a6 i) i 0 from funext (fun c => by
        unfold ic_bk6
        by_cases ec : c = i
        · rw [ec, pk_us, if_pos (by omega)]
        · rw [pk_un ec]
          by_cases el : c < i
          · rw [if_pos el, if_pos (by omega)]
          · rw [if_neg el, if_neg (by omega)]), show ic_bk7 E n a6 a7 (i + 1) = upd (ic_bk7 E n a6 a7 i) i (ic_w E i (n + 1)) from funext (fun c => by
        unfold ic_bk7
        by_cases ec : c = i
        · rw [ec, pk_us, if_pos ⟨by omega, e⟩]
        · rw [pk_un ec]
          by_cases el : c < i ∧ ¬ a6 c = 0
          · rw [if_pos el, if_pos ⟨by omega, el.2⟩]
          · rw [if_neg el, if_neg (fun z => el ⟨by omega, z.2⟩)])] at t
      exact br_f e (ic_word h hn hi ⟨pk_in i 16 hi, nm_e ⟨pk_in i 16 hi, nm_e (nm_r (nI_1 s) (nm_r (nI_1 i) t))⟩⟩)
theorem ic_keepWords (h : ic_C Z E a1 a2 a3 a4 a5) (hn : n ≤ 3) (hp : ∀ a8', (∀ c, c < 16 → a8' c = ic_w E c (n + 1)) → post (nI (n + 1), sh, a1, a2, a3, a4, a5, a6, a7, a8')) : wpX_keepWords post (nI (n + 1), sh, a1, a2, a3, a4, a5, a6, a7, a8) := by
  refine pk_loop (fun m i s => wX_keepWords_2 post (nI (n + 1)) sh m (nI i) a1 a2 a3 a4 a5 a6 a7 s) (fun i s => ∀ c, c < i → s c = ic_w E c (n + 1)) 16 0 a8 (by omega) (fun c hc => absurd hc (by omega)) ?_ ?_
  · intro m s hI
    exact pk_le 16 16 (fun _ => hp s hI) (fun z => absurd z (by omega))
  · intro m i s hi hI hw
    refine pk_le 16 i (fun z => absurd z (by omega)) (fun _ => ic_word h hn hi ⟨pk_in i 16 hi, nm_r (e' := upd s i (ic_w E i (n + 1))) (by rw [nI_clamp (by omega)]) (nm_r (nI_1 i) (hw _ (fun c hc => ?_)))⟩)
    by_cases e : c = i
    · rw [e, pk_us]
    · rw [pk_un e]
      exact hI c (by omega)
theorem ic_markChanges (h : ic_C Z E a1 a2 a3 a4 a5) (hn : n ≤ 3) (h8 : ∀ c, c < 16 → a8 c = W0 c) (hp : ∀ r, ps r (nI (n + 1), sh, a1, a2, a3, a4, a5, ic_mc W0 E n a6 16, a7, a8)) : wpX_markChanges ps (nI (n + 1), sh, a1, a2, a3, a4, a5, a6, a7, a8) := by
  have e6 : ic_mc W0 E n a6 0 = a6 := funext (fun c => if_neg (by omega))
  have L := pk_loop (fun m i s => wX_markChanges_4 ps (nI (n + 1)) sh m s (nI i) a1 a2 a3 a4 a5 (ic_mc W0 E n a6 i) a7 a8) (fun i s => True) 16 0 0 (by omega) trivial ?_ ?_
  · rw [e6] at L
    exact L
  · intro m s hI
    exact pk_le 16 16 (fun _ => hp _) (fun z => absurd z (by omega))
  · intro m i s hi hI hw
    refine pk_le 16 i (fun z => absurd z (by omega)) (fun _ => ic_word h hn hi ⟨pk_in i 16 hi, ?_⟩)
    rw [nI_clamp (show i < 2 ^ 31 by omega), h8 i hi]
    by_cases e : ic_w E i (n + 1) = W0 i
    · have t := hw s trivial
      rw [show ic_mc W0 E n a6 (i + 1) = ic_mc W0 E n a6 i from funext (fun c => by
        unfold ic_mc
        by_cases ec : c = i
        · rw [ec, if_neg (fun z => z.2 e), if_neg (fun z => z.2 e)]
        · by_cases el : c < i ∧ ¬ ic_w E c (n + 1) = W0 c
          · rw [if_pos el, if_pos ⟨by omega, el.2⟩]
          · rw [if_neg el, if_neg (fun z => el ⟨by omega, z.2⟩)])] at t
      exact br_t e (nm_r (nI_1 i) t)
    · have t := hw (s + 1) trivial
      rw [show ic_mc W0 E n a6 (i + 1) = upd (ic_mc W0 E n a6 i) i 1 from funext (fun c => by
        unfold ic_mc
        by_cases ec : c = i
        · rw [ec, pk_us, if_pos ⟨by omega, e⟩]
        · rw [pk_un ec]
          by_cases el : c < i ∧ ¬ ic_w E c (n + 1) = W0 c
          · rw [if_pos el, if_pos ⟨by omega, el.2⟩]
          · rw [if_neg el, if_neg (fun z => el ⟨by omega, z.2⟩)])] at t
      exact br_f e ⟨pk_in i 16 hi, nm_e (nm_e (nm_r (nI_1 i) t))⟩
end
end
section
/-- the slots that must be empty: the images above the top, the snapshots behind the last -/
def ic_Z (n sh : Nat) : Nat → Prop := fun k => (4 * (n + 1) ≤ k ∧ k < 16) ∨ 16 + 4 * sh ≤ k
/-- the object's state matches the picture: top n, sh snapshots, what the slots say, marks, copies -/
def ic_R (n sh : Nat) (E : Nat → Nat → Option Int32) (a6 a7 : Nat → Int32) (u : St1) : Prop :=
  ∃ a1 a2 a3 a4 a5 a8, u = (nI (n + 1), nI sh, a1, a2, a3, a4, a5, a6, a7, a8) ∧ n ≤ 3 ∧ sh ≤ 4 ∧ ic_C (ic_Z n sh) E a1 a2 a3 a4 a5
def ic_pt (E : Nat → Nat → Option Int32) (n c : Nat) (o : Option Int32) : Nat → Nat → Option Int32 := fun k j => if k = 4 * n + c / 4 ∧ j = c % 4 then o else E k j
def ic_clr (E : Nat → Nat → Option Int32) (f : Nat) : Nat → Nat → Option Int32 := fun k j => if k / 4 = f then none else E k j
def ic_cp (E : Nat → Nat → Option Int32) (f g : Nat) : Nat → Nat → Option Int32 := fun k j => if k / 4 = f then E (4 * g + k % 4) j else E k j
/-- rows m and m + 1 become one -/
def ic_mg (E : Nat → Nat → Option Int32) (m : Nat) : Nat → Nat → Option Int32 := fun k j => if k / 4 = m then (if E (k + 4) j = none then E k j else E (k + 4) j) else if k / 4 = m + 1 then none else E k j
/-- snapshot s is forgotten, sh stay -/
def ic_fg (E : Nat → Nat → Option Int32) (s sh : Nat) : Nat → Nat → Option Int32 := fun k j => if 16 + 4 * s ≤ k ∧ k < 16 + 4 * sh then E (k + 4) j else if 16 + 4 * sh ≤ k ∧ k < 16 + 4 * sh + 4 then none else E k j
def ic_fl (E : Nat → Nat → Option Int32) (n : Nat) (a6 : Nat → Int32) (w : Int32) (c : Nat) : Nat → (Nat → Nat → Option Int32) × (Nat → Int32)
  | 0 => (E, a6)
  | m + 1 => (ic_pt (ic_fl E n a6 w c m).1 n (c + m) (some w), if ic_w (ic_fl E n a6 w c m).1 (c + m) (n + 1) = w then (ic_fl E n a6 w c m).2 else upd (ic_fl E n a6 w c m).2 (c + m) 1)
def ic_ci (E : Nat → Nat → Option Int32) (m i : Nat) : Nat → Nat → Option Int32 := fun k j => if k / 4 = m ∧ 4 * (k % 4) + j < i ∧ ¬ E (k + 4) j = none then E (k + 4) j else E k j
def ic_pi (E : Nat → Nat → Option Int32) (m i : Nat) : Nat → Nat → Option Int32 := fun k j => if k / 4 = m + 1 ∧ 4 * (k % 4) + j < i ∧ E k j = none then E (k - 4) j else E k j
section
variable {po : Int32 → Prop} {post : St1 → Prop} {ps : Int32 → St1 → Prop} {u : St1} {Z : Nat → Prop} {E : Nat → Nat → Option Int32} {a1 a2 a3 a4 a5 a6 a7 a8 : Nat → Int32} {f c d n s sh : Nat} {r w : Int32}
theorem ic_ifc {α : Type} {a b : Prop} {da : Decidable a} {db : Decidable b} {x y : α} (h : a ↔ b) : (if a then x else y) = (if b then x else y) := by
  by_cases e : a
  · rw [if_pos e, if_pos (h.mp e)]
  · rw [if_neg e, if_neg (fun z => e (h.mpr z))]
theorem ic_write (h : ic_R n sh E a6 a7 u) (hc : c < 16) (hp : ∀ r u', ic_R n sh (ic_pt E n c (some w)) (if ic_w E c (n + 1) = w then a6 else upd a6 c 1) a7 u' → ps r u') : wpX_write ps u (nI c) w := by
  obtain ⟨a1, a2, a3, a4, a5, a8, rfl, hn, hs, hC⟩ := h
  have hz : ¬ ic_Z n sh (4 * n + c / 4) := by unfold ic_Z; omega
  unfold wpX_write
  refine ic_bad hc (br_t rfl (ic_word hC hn hc (ic_top (ic_say hC (by omega) hc hz (E' := ic_pt E n c (some w)) (fun _ _ _ _ => rfl) (fun b1 b2 b3 b4 b5 hC' => ?_)))))
  by_cases e : ic_w E c (n + 1) = w
  · rw [if_pos e] at hp
    exact br_t e (hp 0 _ ⟨b1, b2, b3, b4, b5, a8, rfl, hn, hs, hC'⟩)
  · rw [if_neg e] at hp
    exact br_f e ⟨pk_in c 16 hc, nm_r (e' := upd a6 c 1) (by rw [nI_clamp (by omega)]) (hp 1 _ ⟨b1, b2, b3, b4, b5, a8, rfl, hn, hs, hC'⟩)⟩
theorem ic_fill (h : ic_R n sh E a6 a7 u) (hcd : c ≤ d) (hd : d < 16) (hp : ∀ r u', ic_R n sh (ic_fl E n a6 w c (d + 1 - c)).1 (ic_fl E n a6 w c (d + 1 - c)).2 a7 u' → ps r u') : wpX_fill ps u (nI c) (nI d) w := by
  have L : ∃ fu, wX_fill_29 ps (nI d) w fu 0 (nI c) u.1 u.2.1 u.2.2.1 u.2.2.2.1 u.2.2.2.2.1 u.2.2.2.2.2.1 u.2.2.2.2.2.2.1 u.2.2.2.2.2.2.2.1 u.2.2.2.2.2.2.2.2.1 u.2.2.2.2.2.2.2.2.2 := by
    refine pk_loop (σ := Int32 × St1) (fun N m s => wX_fill_29 ps (nI d) w N s.1 (nI (c + m)) s.2.1 s.2.2.1 s.2.2.2.1 s.2.2.2.2.1 s.2.2.2.2.2.1 s.2.2.2.2.2.2.1 s.2.2.2.2.2.2.2.1 s.2.2.2.2.2.2.2.2.1 s.2.2.2.2.2.2.2.2.2.1 s.2.2.2.2.2.2.2.2.2.2) (fun m s => ic_R n sh (ic_fl E n a6 w c m).1 (ic_fl E n a6 w c m).2 a7 s.2) (d + 1 - c) 0 (0, u) (by omega) h ?_ ?_
    · intro N s hI
      exact pk_lt d (c + (d + 1 - c)) (fun _ => hp _ s.2 hI) (fun z => absurd z (by omega))
    · intro N m s hm hI hw
      refine pk_lt d (c + m) (fun z => absurd z (by omega)) (fun _ => ic_write (u := s.2) hI (by omega) (fun r u' h' => ?_))
      exact nm_e (nm_r (nI_1 (c + m)) (hw (s.1 + r, u') h'))
  obtain ⟨a1, a2, a3, a4, a5, a8, rfl, hn, hs, hC⟩ := h
  unfold wpX_fill
  exact ic_bad (by omega) (br_t rfl (ic_bad hd (br_t rfl (pk_le c d (fun _ => L) (fun z => absurd z (by omega))))))
theorem ic_discard (h : ic_R n sh E a6 a7 u) (hc : c < 16) (hp : ∀ r u', ic_R n sh (ic_pt E n c none) (if ic_w (ic_pt E n c none) c (n + 1) = ic_w E c (n + 1) then a6 else upd a6 c 1) a7 u' → ps r u') : wpX_discard ps u (nI c) := by
  obtain ⟨a1, a2, a3, a4, a5, a8, rfl, hn, hs, hC⟩ := h
  have hz : ¬ ic_Z n sh (4 * n + c / 4) := by unfold ic_Z; omega
  have k34 : ∀ z, wX_discard_34 ps (nI c) (ic_w E c (n + 1)) z (nI (n + 1)) (nI sh) a1 a2 a3 a4 a5 a6 a7 a8 := by
    intro z
    unfold wX_discard_34
    refine ic_top (ic_sayNothing hC (by omega) hc hz (E' := ic_pt E n c none) (fun _ _ _ _ => rfl) (fun b1 b2 b3 b4 b5 hC' => ic_word hC' hn hc ?_))
    by_cases e : ic_w (ic_pt E n c none) c (n + 1) = ic_w E c (n + 1)
    · rw [if_pos e] at hp
      exact br_t e (hp z _ ⟨b1, b2, b3, b4, b5, a8, rfl, hn, hs, hC'⟩)
    · rw [if_neg e] at hp
      exact br_f e ⟨pk_in c 16 hc, nm_r (e' := upd a6 c 1) (by rw [nI_clamp (by omega)]) (hp z _ ⟨b1, b2, b3, b4, b5, a8, rfl, hn, hs, hC'⟩)⟩
  unfold wpX_discard
  exact ic_bad hc (br_t rfl (ic_word hC hn hc (ic_top (ic_entry hC (by omega) hc (fun r _ _ => br_c (fun _ => k34 0) (fun _ => k34 1))))))
theorem ic_overlay (h : ic_R n sh E a6 a7 u) (h1 : (n = 3 ∨ sh ≠ 0) → ∀ r u', ic_R n sh E a6 a7 u' → ps r u') (h2 : n < 3 → sh = 0 → ∀ r u', ic_R (n + 1) sh E a6 a7 u' → ps r u') : wpX_overlay ps u := by
  have h' := h
  obtain ⟨a1, a2, a3, a4, a5, a8, rfl, hn, hs, hC⟩ := h
  refine pk_eq (n + 1) 4 (fun e => h1 (Or.inl (by omega)) _ _ h') (fun e => pk_le sh 0 (fun e2 => nm_r (nI_1 (n + 1)) (h2 (by omega) (by omega) _ _ ⟨a1, a2, a3, a4, a5, a8, rfl, by omega, hs, ic_C_w hC (fun k hk z => ?_) (fun _ _ _ _ => rfl)⟩)) (fun e2 => h1 (Or.inr (by omega)) _ _ h'))
  unfold ic_Z at z ⊢
  omega
theorem ic_snapshot (h : ic_R n sh E a6 a7 u) (h1 : sh = 4 → ps (-2) u) (h2 : sh < 4 → ∀ u', ic_R n (sh + 1) (ic_cp E (4 + sh) n) a6 a7 u' → ps (nI sh) u') : wpX_snapshot ps u := by
  obtain ⟨a1, a2, a3, a4, a5, a8, rfl, hn, hs, hC⟩ := h
  refine pk_eq sh 4 (fun e => h1 e) (fun e => ic_top ?_)
  rw [ic_4]
  refine ic_share hC (f := 4 + sh) (g := n) (by omega) (by omega) (by omega) (Z' := ic_Z n (sh + 1)) (E' := ic_cp E (4 + sh) n) (fun k hk e => ?_) (fun k hk z => ?_) (fun _ _ _ _ => rfl) (fun b1 b3 hC' => nm_r (nI_1 sh) ?_)
  · unfold ic_Z; omega
  · unfold ic_Z at z ⊢; omega
  · rw [nI_pred]
    exact h2 (by omega) _ ⟨b1, a2, b3, a4, a5, a8, rfl, hn, by omega, hC'⟩
theorem ic_revert (h : ic_R n sh E a6 a7 u) (hs4 : s < 4) (h1 : sh ≤ s → ∀ r u', ic_R n sh E a6 a7 u' → ps r u') (h2 : s < sh → ∀ r u', ic_R n sh (ic_cp E n (4 + s)) (ic_mc (fun c => ic_w E c (n + 1)) (ic_cp E n (4 + s)) n a6 16) a7 u' → ps r u') : wpX_revert ps u (nI s) := by
  obtain ⟨a1, a2, a3, a4, a5, a8, rfl, hn, hs, hC⟩ := h
  unfold wpX_revert
  refine ic_noShot (by omega) (by omega) (fun hl => br_t rfl (ic_keepWords hC hn (fun b8 h8 => ic_top (ic_clearTable hC (by omega) (Z' := fun k => k / 4 = n ∨ ic_Z n sh k) (E' := ic_clr E n) (fun _ _ z => z) (fun _ _ _ _ => rfl) (fun c1 c3 c5 hC1 => ic_top ?_))))) (fun hl => br_f (by decide) (h1 hl _ _ ⟨a1, a2, a3, a4, a5, a8, rfl, hn, hs, hC⟩))
  rw [ic_4]
  refine ic_share hC1 (f := n) (g := 4 + s) (by omega) (by omega) (by omega) (Z' := ic_Z n sh) (E' := ic_cp E n (4 + s)) (fun k hk e => Or.inl e) (fun k hk z => ⟨?_, Or.inr z⟩) (fun k j hk hj => ?_) (fun d1 d3 hC2 => ic_markChanges hC2 hn h8 (fun r => h2 hl r _ ⟨d1, a2, d3, a4, c5, b8, rfl, hn, hs, hC2⟩))
  · unfold ic_Z at z; omega
  · unfold ic_cp ic_clr
    by_cases e : k / 4 = n
    · rw [if_pos e, if_pos e, if_neg (by omega)]
    · rw [if_neg e, if_neg e, if_neg e]
theorem ic_abandon (h : ic_R n sh E a6 a7 u) (h1 : (n = 0 ∨ sh ≠ 0) → ∀ r u', ic_R n sh E a6 a7 u' → ps r u') (h2 : ∀ m, n = m + 1 → sh = 0 → ∀ r u', ic_R m sh (ic_clr E (m + 1)) (ic_mc (fun c => ic_w E c (m + 1 + 1)) (ic_clr E (m + 1)) m a6 16) a7 u' → ps r u') : wpX_abandon ps u := by
  have h' := h
  obtain ⟨a1, a2, a3, a4, a5, a8, rfl, hn, hs, hC⟩ := h
  refine pk_eq (n + 1) 1 (fun e => h1 (Or.inl (by omega)) _ _ h') (fun e => pk_le sh 0 (fun e2 => ?_) (fun e2 => h1 (Or.inr (by omega)) _ _ h'))
  obtain ⟨m, rfl⟩ : ∃ m, n = m + 1 := ⟨n - 1, by omega⟩
  refine ic_keepWords hC hn (fun b8 h8 => ?_)
  refine pk_loop (σ := Int32) (fun N i x => wX_abandon_26 ps (nI (m + 1 + 1)) (nI sh) a1 a2 a3 a4 a5 a6 a7 b8 N x (nI i)) (fun _ _ => True) 16 0 0 (by omega) trivial ?_ ?_
  · intro N x _
    refine pk_le 16 16 (fun _ => ic_top (ic_clearTable hC (f := m + 1) (by omega) (Z' := ic_Z m sh) (E' := ic_clr E (m + 1)) (fun k hk z => ?_) (fun _ _ _ _ => rfl) (fun c1 c3 c5 hC1 => nm_r (nI_pred (m + 1)) (ic_markChanges hC1 (by omega) h8 (fun r => h2 m rfl (by omega) _ _ ⟨c1, a2, c3, a4, c5, b8, rfl, by omega, hs, hC1⟩))))) (fun z => absurd z (by omega))
    unfold ic_Z at z ⊢
    omega
  · intro N i x hi _ hw
    exact pk_le 16 i (fun z => absurd z (by omega)) (fun _ => ic_top (ic_entry hC (by omega) hi (fun r _ _ => br_c (fun _ => nm_r (nI_1 i) (hw x trivial)) (fun _ => nm_e (nm_r (nI_1 i) (hw (x + 1) trivial))))))
theorem ic_checkR (h : ic_R n sh E a6 a7 u) (hp : ∀ u', ic_R n sh E a6 a7 u' → ps 0 u') : wpX_check ps u := by
  obtain ⟨a1, a2, a3, a4, a5, a8, rfl, hn, hs, hC⟩ := h
  exact ic_check hC (fun b3 b5 hC' => hp _ ⟨a1, a2, b3, a4, b5, a8, rfl, hn, hs, hC'⟩)
theorem ic_backupR (h : ic_R n sh E a6 a7 u) (hp : ∀ r u', ¬ r < 0 → ic_R n sh E (ic_bk6 a6 16) (ic_bk7 E n a6 a7 16) u' → ps r u') : wpX_backup ps u := by
  obtain ⟨a1, a2, a3, a4, a5, a8, rfl, hn, hs, hC⟩ := h
  exact ic_backup hC hn (fun r hr => hp r _ hr ⟨a1, a2, a3, a4, a5, a8, rfl, hn, hs, hC⟩)
theorem ic_commit (h : ic_R n sh E a6 a7 u) (h1 : (n = 0 ∨ sh ≠ 0) → ps (-4) u) (h2 : ∀ m, n = m + 1 → sh = 0 → ∀ r u', ic_R m sh (ic_mg E m) a6 a7 u' → ps r u') : wpX_commit ps u := by
  obtain ⟨a1, a2, a3, a4, a5, a8, rfl, hn, hs, hC⟩ := h
  refine pk_eq (n + 1) 1 (fun e => h1 (Or.inl (by omega))) (fun e => pk_le sh 0 (fun e2 => ?_) (fun e2 => h1 (Or.inr (by omega))))
  obtain ⟨m, rfl⟩ : ∃ m, n = m + 1 := ⟨n - 1, by omega⟩
  refine pk_loop (σ := Int32 × (Nat → Int32) × (Nat → Int32) × (Nat → Int32) × (Nat → Int32) × (Nat → Int32)) (fun N i s => wX_commit_22 ps N s.1 (nI i) (nI (m + 1 + 1)) (nI sh) s.2.1 s.2.2.1 s.2.2.2.1 s.2.2.2.2.1 s.2.2.2.2.2 a6 a7 a8) (fun i s => ic_C (ic_Z (m + 1) sh) (ic_ci E m i) s.2.1 s.2.2.1 s.2.2.2.1 s.2.2.2.2.1 s.2.2.2.2.2) 16 0 (0, a1, a2, a3, a4, a5) (by omega) (ic_C_w hC (fun _ _ z => z) (fun k j hk hj => if_neg (by omega))) ?_ ?_
  · intro N s hI
    refine pk_le 16 16 (fun _ => ic_top (ic_clearTable hI (f := m + 1) (by omega) (Z' := ic_Z m sh) (E' := ic_mg E m) (fun k hk z => ?_) (fun k j hk hj => ?_) (fun c1 c3 c5 hC1 => nm_r (nI_pred (m + 1)) (h2 m rfl (by omega) _ _ ⟨c1, s.2.2.1, c3, s.2.2.2.2.1, c5, a8, rfl, by omega, hs, hC1⟩)))) (fun z => absurd z (by omega))
    · unfold ic_Z at z ⊢
      omega
    · unfold ic_mg ic_ci
      by_cases e : k / 4 = m
      · rw [if_pos e, if_neg (show ¬ k / 4 = m + 1 by omega)]
        by_cases e3 : E (k + 4) j = none
        · rw [if_pos e3, if_neg (fun z => z.2.2 e3)]
        · rw [if_neg e3, if_pos ⟨e, by omega, e3⟩]
      · rw [if_neg e]
        by_cases e3 : k / 4 = m + 1
        · rw [if_pos e3, if_pos e3]
        · rw [if_neg e3, if_neg e3, if_neg (fun z => e z.1)]
  · intro N i s hi hI hw
    have e1 : ic_ci E m i (4 * (m + 1) + i / 4) (i % 4) = E (4 * (m + 1) + i / 4) (i % 4) := if_neg (by omega)
    refine pk_le 16 i (fun z => absurd z (by omega)) (fun _ => ic_top (ic_entry hI (by omega) hi (fun r _ hev => ?_)))
    rw [e1] at hev
    refine br_c (fun er => nm_r (nI_1 i) (hw s (ic_C_w hI (fun _ _ z => z) (fun k j hk hj => ?_)))) (fun er => ic_wordOf hev (ic_top ?_))
    · have e0 := (ic_ev_n hev).mp er
      refine ic_ifc ⟨fun z => ⟨z.1, ?_, z.2.2⟩, fun z => ⟨z.1, Nat.lt_succ_of_lt z.2.1, z.2.2⟩⟩
      have z1 := z.1
      have z2 := z.2.1
      by_cases el : 4 * (k % 4) + j < i
      · exact el
      · exfalso
        refine z.2.2 ?_
        rw [show k + 4 = 4 * (m + 1) + i / 4 by omega, show j = i % 4 by omega]
        exact e0
    · rw [nI_pred]
      refine ic_say hI (f := m) (c := i) (by omega) hi (by unfold ic_Z; omega) (E' := ic_ci E m (i + 1)) (fun k j hk hj => ?_) (fun b1 b2 b3 b4 b5 hC' => nm_e (nm_r (nI_1 i) (hw (s.1 + 1, b1, b2, b3, b4, b5) hC')))
      by_cases ek : k = 4 * m + i / 4 ∧ j = i % 4
      · rw [if_pos ek]
        have ek' : E (k + 4) j = E (4 * (m + 1) + i / 4) (i % 4) := by rw [show k + 4 = 4 * (m + 1) + i / 4 by omega, ek.2]
        unfold ic_ci
        cases eo : E (4 * (m + 1) + i / 4) (i % 4) with
        | none => exact absurd ((ic_ev_n hev).mpr eo) er
        | some v =>
          rw [eo] at ek'
          rw [if_pos ⟨by omega, by omega, by rw [ek']; exact Option.some_ne_none v⟩, ek']
          rfl
      · rw [if_neg ek]
        refine ic_ifc ⟨fun z => ⟨z.1, ?_, z.2.2⟩, fun z => ⟨z.1, Nat.lt_succ_of_lt z.2.1, z.2.2⟩⟩
        have z1 := z.1
        have z2 := z.2.1
        omega
theorem ic_pull (h : ic_R n sh E a6 a7 u) (h1 : n = 0 → ps (-4) u) (h2 : ∀ m, n = m + 1 → ∀ r u', ic_R m sh (ic_mg E m) a6 a7 u' → ps r u') : wpX_pull ps u := by
  obtain ⟨a1, a2, a3, a4, a5, a8, rfl, hn, hs, hC⟩ := h
  refine pk_eq (n + 1) 1 (fun e => h1 (by omega)) (fun e => ic_top ?_)
  obtain ⟨m, rfl⟩ : ∃ m, n = m + 1 := ⟨n - 1, by omega⟩
  refine nm_r (nI_pred m) ?_
  have L82 : ∀ b1 b2 b3 b4 b5, ic_C (fun k => k / 4 = m ∨ ic_Z (m + 1) sh k) (ic_clr (ic_pi E m 16) m) b1 b2 b3 b4 b5 → ∃ fu, wX_pull_82 ps (nI m) (nI (m + 1 + 1)) (nI sh) fu 0 b1 b2 b3 b4 b5 a6 a7 a8 := by
    intro b1 b2 b3 b4 b5 hB
    refine pk_loop (fun N i s => wX_pull_82 ps (nI m) (nI (m + 1 + 1)) (nI sh) N (nI i) s b2 b3 b4 b5 a6 a7 a8) (fun i s => ic_C (fun k => (k / 4 = m ∧ 4 * m + i ≤ k) ∨ ic_Z (m + 1) sh k ∨ (4 * (m + 1) ≤ k ∧ k < 4 * (m + 1) + i)) (fun k j => if k / 4 = m then (if k < 4 * m + i then ic_pi E m 16 (k + 4) j else none) else if 4 * (m + 1) ≤ k ∧ k < 4 * (m + 1) + i then none else ic_pi E m 16 k j) s b2 b3 b4 b5) 4 0 b1 (by omega) (ic_C_w hB (fun k hk z => ?_) (fun k j hk hj => ?_)) ?_ ?_
    · rcases z with z | z | z
      · exact Or.inl z.1
      · exact Or.inr z
      · omega
    · unfold ic_clr
      by_cases ek : k / 4 = m
      · rw [if_pos ek, if_pos ek, if_neg (by omega)]
      · rw [if_neg ek, if_neg ek, if_neg (by omega)]
    · intro N s hI
      refine pk_le 4 4 (fun _ => nm_r (nI_pred (m + 1)) (h2 m rfl _ _ ⟨s, b2, b3, b4, b5, a8, rfl, by omega, hs, ic_C_w hI (fun k hk z => ?_) (fun k j hk hj => ?_)⟩)) (fun z => absurd z (by omega))
      · unfold ic_Z at z ⊢
        omega
      · unfold ic_mg ic_pi
        by_cases ek : k / 4 = m
        · rw [if_pos ek, if_pos ek, if_pos (show k < 4 * m + 4 by omega)]
          by_cases e3 : E (k + 4) j = none
          · rw [if_pos e3, if_pos ⟨by omega, by omega, e3⟩, show k + 4 - 4 = k by omega]
          · rw [if_neg e3, if_neg (fun z => e3 z.2.2)]
        · rw [if_neg ek, if_neg ek]
          by_cases e3 : k / 4 = m + 1
          · rw [if_pos e3, if_pos (by omega)]
          · rw [if_neg e3, if_neg (by omega), if_neg (fun z => e3 z.1)]
    · intro N i s hi hI hw
      refine pk_le 4 i (fun z => absurd z (by omega)) (fun _ => ic_top ⟨pk_in (4 * (m + 1) + i) 32 (by omega) (ic_ix (m + 1) i), pk_in (4 * m + i) 32 (by omega) (ic_ix m i), nm_r (e' := upd s (4 * m + i) (s (4 * (m + 1) + i))) (by rw [pk_cl (4 * m + i) (ic_ix m i), pk_cl (4 * (m + 1) + i) (ic_ix (m + 1) i)]) (ic_top ⟨pk_in (4 * (m + 1) + i) 32 (by omega) (ic_ix (m + 1) i), nm_r (e' := upd (upd s (4 * m + i) (s (4 * (m + 1) + i))) (4 * (m + 1) + i) (-1)) (by rw [pk_cl (4 * (m + 1) + i) (ic_ix (m + 1) i)]) (nm_r (nI_1 i) (hw _ ?_))⟩)⟩)
      refine ic_C_move hI (x := 4 * m + i) (y := 4 * (m + 1) + i) (by omega) (by omega) (by omega) (Or.inl ⟨by omega, by omega⟩) (fun k hk z => ?_) (fun j hj => ?_) (fun j hj => ?_) (fun k j hk hj nx ny => ?_)
      · unfold ic_Z at z ⊢
        omega
      · rw [if_pos (by omega), if_pos (by omega), if_neg (by omega), if_neg (by omega), show 4 * m + i + 4 = 4 * (m + 1) + i by omega]
      · rw [if_neg (by omega), if_pos (by omega)]
      · by_cases ek : k / 4 = m
        · rw [if_pos ek, if_pos ek]
          by_cases el : k < 4 * m + i
          · rw [if_pos el, if_pos (by omega)]
          · rw [if_neg el, if_neg (by omega)]
        · rw [if_neg ek, if_neg ek]
          by_cases el : 4 * (m + 1) ≤ k ∧ k < 4 * (m + 1) + i
          · rw [if_pos el, if_pos (by omega)]
          · rw [if_neg el, if_neg (by omega)]
  refine pk_loop (σ := (Nat → Int32) × (Nat → Int32) × (Nat → Int32) × (Nat → Int32) × (Nat → Int32)) (fun N i s => wX_pull_20 ps (nI m) N (nI i) (nI (m + 1 + 1)) (nI sh) s.1 s.2.1 s.2.2.1 s.2.2.2.1 s.2.2.2.2 a6 a7 a8) (fun i s => ic_C (ic_Z (m + 1) sh) (ic_pi E m i) s.1 s.2.1 s.2.2.1 s.2.2.2.1 s.2.2.2.2) 16 0 (a1, a2, a3, a4, a5) (by omega) (ic_C_w hC (fun _ _ z => z) (fun k j hk hj => if_neg (by omega))) ?_ ?_
  · intro N s hI
    exact pk_le 16 16 (fun _ => ic_clearTable hI (f := m) (by omega) (Z' := fun k => k / 4 = m ∨ ic_Z (m + 1) sh k) (E' := ic_clr (ic_pi E m 16) m) (fun _ _ z => z) (fun _ _ _ _ => rfl) (fun c1 c3 c5 hC1 => L82 _ _ _ _ _ hC1)) (fun z => absurd z (by omega))
  · intro N i s hi hI hw
    have e1 : ic_pi E m i (4 * m + i / 4) (i % 4) = E (4 * m + i / 4) (i % 4) := if_neg (by omega)
    have e2 : ic_pi E m i (4 * (m + 1) + i / 4) (i % 4) = E (4 * (m + 1) + i / 4) (i % 4) := if_neg (by omega)
    have same : (E (4 * m + i / 4) (i % 4) = none ∨ ¬ E (4 * (m + 1) + i / 4) (i % 4) = none) → ic_C (ic_Z (m + 1) sh) (ic_pi E m (i + 1)) s.1 s.2.1 s.2.2.1 s.2.2.2.1 s.2.2.2.2 := by
      intro hh
      refine ic_C_w hI (fun _ _ z => z) (fun k j hk hj => ?_)
      by_cases ek : k = 4 * (m + 1) + i / 4 ∧ j = i % 4
      · rw [ek.1, ek.2, e2]
        unfold ic_pi
        by_cases e3 : E (4 * (m + 1) + i / 4) (i % 4) = none
        · rw [if_pos ⟨by omega, by omega, e3⟩, show 4 * (m + 1) + i / 4 - 4 = 4 * m + i / 4 by omega, e3]
          exact hh.resolve_right (fun z => z e3)
        · rw [if_neg (fun z => e3 z.2.2)]
      · refine ic_ifc ⟨fun z => ⟨z.1, ?_, z.2.2⟩, fun z => ⟨z.1, Nat.lt_succ_of_lt z.2.1, z.2.2⟩⟩
        have z1 := z.1
        have z2 := z.2.1
        omega
    refine pk_le 16 i (fun z => absurd z (by omega)) (fun _ => ic_entry hI (by omega) hi (fun r _ hev => ?_))
    rw [e1] at hev
    refine br_c (fun er => nm_r (nI_1 i) (hw s (same (Or.inl ((ic_ev_n hev).mp er))))) (fun er => ic_top (ic_entry hI (by omega) hi (fun r2 _ hev2 => ?_)))
    rw [e2] at hev2
    refine br_c (fun er2 => ic_wordOf hev (ic_top ?_)) (fun er2 => nm_r (nI_1 i) (hw s (same (Or.inr (fun z => er2 ((ic_ev_n hev2).mpr z))))))
    refine ic_say hI (f := m + 1) (c := i) (by omega) hi (by unfold ic_Z; omega) (E' := ic_pi E m (i + 1)) (fun k j hk hj => ?_) (fun b1 b2 b3 b4 b5 hC' => nm_r (nI_1 i) (hw (b1, b2, b3, b4, b5) hC'))
    by_cases ek : k = 4 * (m + 1) + i / 4 ∧ j = i % 4
    · rw [if_pos ek, ek.1, ek.2]
      unfold ic_pi
      rw [if_pos ⟨by omega, by omega, (ic_ev_n hev2).mp er2⟩, show 4 * (m + 1) + i / 4 - 4 = 4 * m + i / 4 by omega]
      cases eo : E (4 * m + i / 4) (i % 4) with
      | none => exact absurd ((ic_ev_n hev).mpr eo) er
      | some v => rfl
    · rw [if_neg ek]
      refine ic_ifc ⟨fun z => ⟨z.1, ?_, z.2.2⟩, fun z => ⟨z.1, Nat.lt_succ_of_lt z.2.1, z.2.2⟩⟩
      have z1 := z.1
      have z2 := z.2.1
      omega
theorem ic_44 (s : Nat) : (4 + nI s) * 4 = nI (16 + 4 * s) := by
  rw [ic_4, show (4 : Int32) = nI 4 from rfl, pk_mul, show (4 + s) * 4 = 16 + 4 * s by omega]
theorem ic_forget (h : ic_R n sh E a6 a7 u) (hs4 : s < 4) (h1 : sh ≤ s → ∀ r u', ic_R n sh E a6 a7 u' → ps r u') (h2 : ∀ q, sh = q + 1 → s < sh → ∀ r u', ic_R n q (ic_fg E s q) a6 a7 u' → ps r u') : wpX_forget ps u (nI s) := by
  obtain ⟨a1, a2, a3, a4, a5, a8, rfl, hn, hs, hC⟩ := h
  unfold wpX_forget
  refine ic_noShot (by omega) (by omega) (fun hl => br_t rfl ?_) (fun hl => br_f (by decide) (h1 hl _ _ ⟨a1, a2, a3, a4, a5, a8, rfl, hn, hs, hC⟩))
  obtain ⟨q, rfl⟩ : ∃ q, sh = q + 1 := ⟨sh - 1, by omega⟩
  rw [ic_4]
  refine ic_clearTable hC (f := 4 + s) (by omega) (Z' := fun k => k / 4 = 4 + s ∨ ic_Z n (q + 1) k) (E' := ic_clr E (4 + s)) (fun _ _ z => z) (fun _ _ _ _ => rfl) (fun b1 b3 b5 hB => nm_r (nI_pred q) (nm_r (e' := nI (16 + 4 * s)) (by rw [← ic_4, ic_44]) ?_))
  refine pk_loop (fun N i t => wX_forget_34 ps (nI (n + 1)) (nI q) N (nI i) t a2 b3 a4 b5 a6 a7 a8) (fun i t => ic_C (fun k => (i ≤ k ∧ k < i + 4) ∨ ic_Z n (q + 1) k) (fun k j => if 16 + 4 * s ≤ k ∧ k < i then E (k + 4) j else if i ≤ k ∧ k < i + 4 then none else E k j) t a2 b3 a4 b5 ∧ 16 + 4 * s ≤ i) (16 + 4 * q) (16 + 4 * s) b1 (by omega) ⟨ic_C_w hB (fun k hk z => ?_) (fun k j hk hj => ?_), by omega⟩ ?_ ?_
  · rcases z with z | z
    · exact Or.inl (by omega)
    · exact Or.inr z
  · unfold ic_clr
    rw [if_neg (by omega)]
    by_cases ek : k / 4 = 4 + s
    · rw [if_pos ek, if_pos (by omega)]
    · rw [if_neg ek, if_neg (by omega)]
  · intro N t hI
    refine pk_le (16 + 4 * q) (16 + 4 * q) (fun _ => h2 q rfl hl _ _ ⟨t, a2, b3, a4, b5, a8, rfl, hn, by omega, ic_C_w hI.1 (fun k hk z => ?_) (fun _ _ _ _ => rfl)⟩) (fun z => absurd z (by omega)) (ic_44 q)
    unfold ic_Z at z ⊢
    omega
  · intro N i t hi hI hw
    have hi4 : nI i + 4 = nI (i + 4) := nI_add i 4
    refine pk_le (16 + 4 * q) i (fun z => absurd z (by omega)) (fun _ => ⟨pk_in (i + 4) 32 (by omega) hi4, pk_in i 32 (by omega), nm_r (e' := upd t i (t (i + 4))) (by rw [nI_clamp (by omega), pk_cl (i + 4) hi4]) ⟨pk_in (i + 4) 32 (by omega) hi4, nm_r (e' := upd (upd t i (t (i + 4))) (i + 4) (-1)) (by rw [pk_cl (i + 4) hi4]) (nm_r (nI_1 i) (hw _ ⟨?_, by omega⟩))⟩⟩) (ic_44 q)
    have hI2 := hI.2
    refine ic_C_move hI.1 (x := i) (y := i + 4) (by omega) (by omega) (by omega) (Or.inl ⟨by omega, by omega⟩) (fun k hk z => ?_) (fun j hj => ?_) (fun j hj => ?_) (fun k j hk hj nx ny => ?_)
    · unfold ic_Z at z ⊢
      omega
    · rw [if_pos (by omega), if_neg (by omega), if_neg (by omega)]
    · rw [if_neg (by omega), if_pos (by omega)]
    · by_cases ek : 16 + 4 * s ≤ k ∧ k < i
      · rw [if_pos ek, if_pos (by omega)]
      · rw [if_neg ek, if_neg (by omega)]
        by_cases el : i ≤ k ∧ k < i + 4
        · rw [if_pos el, if_pos (by omega)]
        · rw [if_neg el, if_neg (by omega)]
end
end
section
theorem ic_a3 {c : Nat} (hc : c < 16) : nI c &&& 3 = nI (c % 4) := pk_andN (by omega) 2 (by decide)
theorem ic_turn40 (n sh : Nat) (E : Nat → Nat → Option Int32) (a6 a7 : Nat → Int32) (o c d : Nat) (ho : o < 32) (hc : c < 16) (hd : d < 16) (w : Int32) :
    ∃ n' sh' E' a6' a7', ∀ a1 a2 a3 a4 a5 a8, n ≤ 3 → sh ≤ 4 → ic_C (ic_Z n sh) E a1 a2 a3 a4 a5 → ∀ ps : Int32 → St1 → Prop, (∀ r u', ic_R n' sh' E' a6' a7' u' → ps r u') → wL_turn_40 ps (nI o) (nI c) (nI d) w (nI (n + 1)) (nI sh) a1 a2 a3 a4 a5 a6 a7 a8 := by
  by_cases h9 : o < 9
  · refine ⟨n, sh, ic_pt E n c (some w), if ic_w E c (n + 1) = w then a6 else upd a6 c 1, a7, fun a1 a2 a3 a4 a5 a8 hn hs hC ps hp => ?_⟩
    exact br_f (nI_ge (b := 9) h9 (by decide)) (ic_write ⟨a1, a2, a3, a4, a5, a8, rfl, hn, hs, hC⟩ hc (fun r u' h' => hp r u' h'))
  have g9 : (9 : Int32) ≤ nI o := nI_le (a := 9) (by omega) (by omega)
  by_cases h12 : o < 12
  · by_cases hdc : d ≤ c
    · refine ⟨n, sh, (ic_fl E n a6 w d (c + 1 - d)).1, (ic_fl E n a6 w d (c + 1 - d)).2, a7, fun a1 a2 a3 a4 a5 a8 hn hs hC ps hp => ?_⟩
      have e : nI d ≤ nI c := nI_le hdc (by omega)
      exact br_t g9 (br_f (nI_ge (b := 12) h12 (by decide)) (br_t e (br_t e (ic_fill ⟨a1, a2, a3, a4, a5, a8, rfl, hn, hs, hC⟩ hdc hc (fun r u' h' => hp r u' h')))))
    · refine ⟨n, sh, (ic_fl E n a6 w c (d + 1 - c)).1, (ic_fl E n a6 w c (d + 1 - c)).2, a7, fun a1 a2 a3 a4 a5 a8 hn hs hC ps hp => ?_⟩
      have e : ¬ nI d ≤ nI c := nI_ge (by omega) (by omega)
      exact br_t g9 (br_f (nI_ge (b := 12) h12 (by decide)) (br_f e (br_f e (ic_fill ⟨a1, a2, a3, a4, a5, a8, rfl, hn, hs, hC⟩ (by omega) hd (fun r u' h' => hp r u' h')))))
  have g12 : (12 : Int32) ≤ nI o := nI_le (a := 12) (by omega) (by omega)
  by_cases h15 : o < 15
  · refine ⟨n, sh, ic_pt E n c none, if ic_w (ic_pt E n c none) c (n + 1) = ic_w E c (n + 1) then a6 else upd a6 c 1, a7, fun a1 a2 a3 a4 a5 a8 hn hs hC ps hp => ?_⟩
    exact br_t g9 (br_t g12 (br_f (nI_ge (b := 15) h15 (by decide)) (ic_discard ⟨a1, a2, a3, a4, a5, a8, rfl, hn, hs, hC⟩ hc (fun r u' h' => hp r u' h'))))
  have g15 : (15 : Int32) ≤ nI o := nI_le (a := 15) (by omega) (by omega)
  by_cases h18 : o < 18
  · by_cases hx : n < 3 ∧ sh = 0
    · refine ⟨n + 1, sh, E, a6, a7, fun a1 a2 a3 a4 a5 a8 hn hs hC ps hp => ?_⟩
      exact br_t g9 (br_t g12 (br_t g15 (br_f (nI_ge (b := 18) h18 (by decide)) (ic_overlay ⟨a1, a2, a3, a4, a5, a8, rfl, hn, hs, hC⟩ (fun z => absurd z (by omega)) (fun _ _ r u' h' => hp r u' h')))))
    · refine ⟨n, sh, E, a6, a7, fun a1 a2 a3 a4 a5 a8 hn hs hC ps hp => ?_⟩
      exact br_t g9 (br_t g12 (br_t g15 (br_f (nI_ge (b := 18) h18 (by decide)) (ic_overlay ⟨a1, a2, a3, a4, a5, a8, rfl, hn, hs, hC⟩ (fun _ r u' h' => hp r u' h') (fun z1 z2 => absurd ⟨z1, z2⟩ hx)))))
  have g18 : (18 : Int32) ≤ nI o := nI_le (a := 18) (by omega) (by omega)
  by_cases e18 : o = 18
  · have e18' : nI o = 18 := by rw [e18]; rfl
    by_cases hx : n = 0 ∨ sh ≠ 0
    · refine ⟨n, sh, E, a6, a7, fun a1 a2 a3 a4 a5 a8 hn hs hC ps hp => ?_⟩
      exact br_t g9 (br_t g12 (br_t g15 (br_t g18 (br_t e18' (ic_commit ⟨a1, a2, a3, a4, a5, a8, rfl, hn, hs, hC⟩ (fun _ => hp _ _ ⟨a1, a2, a3, a4, a5, a8, rfl, hn, hs, hC⟩) (fun m z1 z2 => absurd hx (by omega)))))))
    · obtain ⟨m, rfl⟩ : ∃ m, n = m + 1 := ⟨n - 1, by omega⟩
      refine ⟨m, sh, ic_mg E m, a6, a7, fun a1 a2 a3 a4 a5 a8 hn hs hC ps hp => ?_⟩
      exact br_t g9 (br_t g12 (br_t g15 (br_t g18 (br_t e18' (ic_commit ⟨a1, a2, a3, a4, a5, a8, rfl, hn, hs, hC⟩ (fun z => absurd z hx) (fun m' z1 _ r u' h' => hp r u' (by rw [show m = m' by omega]; exact h')))))))
  have n18 : ¬ nI o = 18 := fun z => e18 (ic_inj (b := 18) (by omega) (by decide) z)
  by_cases e19 : o = 19
  · have e19' : nI o = 19 := by rw [e19]; rfl
    by_cases hx : n = 0 ∨ sh ≠ 0
    · refine ⟨n, sh, E, a6, a7, fun a1 a2 a3 a4 a5 a8 hn hs hC ps hp => ?_⟩
      exact br_t g9 (br_t g12 (br_t g15 (br_t g18 (br_f n18 (br_t e19' (ic_abandon ⟨a1, a2, a3, a4, a5, a8, rfl, hn, hs, hC⟩ (fun _ r u' h' => hp r u' h') (fun m z1 z2 => absurd hx (by omega))))))))
    · obtain ⟨m, rfl⟩ : ∃ m, n = m + 1 := ⟨n - 1, by omega⟩
      refine ⟨m, sh, ic_clr E (m + 1), ic_mc (fun c => ic_w E c (m + 1 + 1)) (ic_clr E (m + 1)) m a6 16, a7, fun a1 a2 a3 a4 a5 a8 hn hs hC ps hp => ?_⟩
      exact br_t g9 (br_t g12 (br_t g15 (br_t g18 (br_f n18 (br_t e19' (ic_abandon ⟨a1, a2, a3, a4, a5, a8, rfl, hn, hs, hC⟩ (fun z => absurd z hx) (fun m' z1 _ r u' h' => hp r u' (by rw [show m = m' by omega]; exact h'))))))))
  have n19 : ¬ nI o = 19 := fun z => e19 (ic_inj (b := 19) (by omega) (by decide) z)
  by_cases e20 : o = 20
  · have e20' : nI o = 20 := by rw [e20]; rfl
    by_cases hx : n = 0
    · refine ⟨n, sh, E, a6, a7, fun a1 a2 a3 a4 a5 a8 hn hs hC ps hp => ?_⟩
      exact br_t g9 (br_t g12 (br_t g15 (br_t g18 (br_f n18 (br_f n19 (br_t e20' (ic_pull ⟨a1, a2, a3, a4, a5, a8, rfl, hn, hs, hC⟩ (fun _ => hp _ _ ⟨a1, a2, a3, a4, a5, a8, rfl, hn, hs, hC⟩) (fun m z1 => absurd hx (by omega)))))))))
    · obtain ⟨m, rfl⟩ : ∃ m, n = m + 1 := ⟨n - 1, by omega⟩
      refine ⟨m, sh, ic_mg E m, a6, a7, fun a1 a2 a3 a4 a5 a8 hn hs hC ps hp => ?_⟩
      exact br_t g9 (br_t g12 (br_t g15 (br_t g18 (br_f n18 (br_f n19 (br_t e20' (ic_pull ⟨a1, a2, a3, a4, a5, a8, rfl, hn, hs, hC⟩ (fun z => absurd z hx) (fun m' z1 r u' h' => hp r u' (by rw [show m = m' by omega]; exact h')))))))))
  have n20 : ¬ nI o = 20 := fun z => e20 (ic_inj (b := 20) (by omega) (by decide) z)
  by_cases h24 : o < 24
  · by_cases hx : sh < 4
    · refine ⟨n, sh + 1, ic_cp E (4 + sh) n, a6, a7, fun a1 a2 a3 a4 a5 a8 hn hs hC ps hp => ?_⟩
      exact br_t g9 (br_t g12 (br_t g15 (br_t g18 (br_f n18 (br_f n19 (br_f n20 (br_f (nI_ge (b := 24) h24 (by decide)) (ic_snapshot ⟨a1, a2, a3, a4, a5, a8, rfl, hn, hs, hC⟩ (fun z => absurd z (by omega)) (fun _ u' h' => hp _ u' h')))))))))
    · refine ⟨n, sh, E, a6, a7, fun a1 a2 a3 a4 a5 a8 hn hs hC ps hp => ?_⟩
      exact br_t g9 (br_t g12 (br_t g15 (br_t g18 (br_f n18 (br_f n19 (br_f n20 (br_f (nI_ge (b := 24) h24 (by decide)) (ic_snapshot ⟨a1, a2, a3, a4, a5, a8, rfl, hn, hs, hC⟩ (fun _ => hp _ _ ⟨a1, a2, a3, a4, a5, a8, rfl, hn, hs, hC⟩) (fun z => absurd z hx)))))))))
  have g24 : (24 : Int32) ≤ nI o := nI_le (a := 24) (by omega) (by omega)
  by_cases h27 : o < 27
  · by_cases hx : c % 4 < sh
    · refine ⟨n, sh, ic_cp E n (4 + c % 4), ic_mc (fun x => ic_w E x (n + 1)) (ic_cp E n (4 + c % 4)) n a6 16, a7, fun a1 a2 a3 a4 a5 a8 hn hs hC ps hp => ?_⟩
      refine br_t g9 (br_t g12 (br_t g15 (br_t g18 (br_f n18 (br_f n19 (br_f n20 (br_t g24 (br_f (nI_ge (b := 27) h27 (by decide)) ?_))))))))
      rw [ic_a3 hc]
      exact ic_revert ⟨a1, a2, a3, a4, a5, a8, rfl, hn, hs, hC⟩ (by omega) (fun z => absurd z (by omega)) (fun _ r u' h' => hp r u' h')
    · refine ⟨n, sh, E, a6, a7, fun a1 a2 a3 a4 a5 a8 hn hs hC ps hp => ?_⟩
      refine br_t g9 (br_t g12 (br_t g15 (br_t g18 (br_f n18 (br_f n19 (br_f n20 (br_t g24 (br_f (nI_ge (b := 27) h27 (by decide)) ?_))))))))
      rw [ic_a3 hc]
      exact ic_revert ⟨a1, a2, a3, a4, a5, a8, rfl, hn, hs, hC⟩ (by omega) (fun _ r u' h' => hp r u' h') (fun z => absurd z hx)
  have g27 : (27 : Int32) ≤ nI o := nI_le (a := 27) (by omega) (by omega)
  by_cases h29 : o < 29
  · by_cases hx : c % 4 < sh
    · refine ⟨n, sh - 1, ic_fg E (c % 4) (sh - 1), a6, a7, fun a1 a2 a3 a4 a5 a8 hn hs hC ps hp => ?_⟩
      refine br_t g9 (br_t g12 (br_t g15 (br_t g18 (br_f n18 (br_f n19 (br_f n20 (br_t g24 (br_t g27 (br_f (nI_ge (b := 29) h29 (by decide)) ?_)))))))))
      rw [ic_a3 hc]
      exact ic_forget ⟨a1, a2, a3, a4, a5, a8, rfl, hn, hs, hC⟩ (by omega) (fun z => absurd z (by omega)) (fun q eq _ r u' h' => hp r u' (by rw [show sh - 1 = q by omega]; exact h'))
    · refine ⟨n, sh, E, a6, a7, fun a1 a2 a3 a4 a5 a8 hn hs hC ps hp => ?_⟩
      refine br_t g9 (br_t g12 (br_t g15 (br_t g18 (br_f n18 (br_f n19 (br_f n20 (br_t g24 (br_t g27 (br_f (nI_ge (b := 29) h29 (by decide)) ?_)))))))))
      rw [ic_a3 hc]
      exact ic_forget ⟨a1, a2, a3, a4, a5, a8, rfl, hn, hs, hC⟩ (by omega) (fun _ r u' h' => hp r u' h') (fun q _ z => absurd z hx)
  have g29 : (29 : Int32) ≤ nI o := nI_le (a := 29) (by omega) (by omega)
  by_cases e29 : nI o = 29
  · refine ⟨n, sh, E, a6, a7, fun a1 a2 a3 a4 a5 a8 hn hs hC ps hp => ?_⟩
    exact br_t g9 (br_t g12 (br_t g15 (br_t g18 (br_f n18 (br_f n19 (br_f n20 (br_t g24 (br_t g27 (br_t g29 (br_t e29 (ic_checkR ⟨a1, a2, a3, a4, a5, a8, rfl, hn, hs, hC⟩ (fun u' h' => hp _ u' h'))))))))))))
  · refine ⟨n, sh, E, ic_bk6 a6 16, ic_bk7 E n a6 a7 16, fun a1 a2 a3 a4 a5 a8 hn hs hC ps hp => ?_⟩
    exact br_t g9 (br_t g12 (br_t g15 (br_t g18 (br_f n18 (br_f n19 (br_f n20 (br_t g24 (br_t g27 (br_t g29 (br_f e29 (ic_backupR ⟨a1, a2, a3, a4, a5, a8, rfl, hn, hs, hC⟩ (fun r u' _ h' => hp r u' h'))))))))))))
/-- a turn: the new picture follows from the old one and the script alone -/
theorem ic_turn (n sh : Nat) (E : Nat → Nat → Option Int32) (a6 a7 : Nat → Int32) (op x : Int32) :
    ∃ n' sh' E' a6' a7', ∀ u, ic_R n sh E a6 a7 u → ∀ ps : Int32 → St1 → Prop, (∀ r u', ic_R n' sh' E' a6' a7' u' → ps r u') → wpL_turn ps u op x := by
  obtain ⟨o, ho, eo⟩ := pk_andE op (m := 31) 5 (by decide)
  obtain ⟨c, hc, ec⟩ := pk_andE x (m := 15) 4 (by decide)
  obtain ⟨d, hd, ed⟩ := pk_andE (x >>> ((4 : Int32) &&& 31)) (m := 15) 4 (by decide)
  by_cases e : x &&& 256 = 0
  · obtain ⟨n', sh', E', a6', a7', H⟩ := ic_turn40 n sh E a6 a7 o c d ho hc hd ((x >>> ((9 : Int32) &&& 31)) &&& 3)
    refine ⟨n', sh', E', a6', a7', fun u h ps hp => ?_⟩
    obtain ⟨a1, a2, a3, a4, a5, a8, rfl, hn, hs, hC⟩ := h
    exact nm_r eo (nm_r ec (nm_r ed (br_t e (H a1 a2 a3 a4 a5 a8 hn hs hC ps hp))))
  · obtain ⟨n', sh', E', a6', a7', H⟩ := ic_turn40 n sh E a6 a7 o c d ho hc hd (x >>> ((9 : Int32) &&& 31))
    refine ⟨n', sh', E', a6', a7', fun u h ps hp => ?_⟩
    obtain ⟨a1, a2, a3, a4, a5, a8, rfl, hn, hs, hC⟩ := h
    exact nm_r eo (nm_r ec (nm_r ed (br_f e (H a1 a2 a3 a4 a5 a8 hn hs hC ps hp))))
end
section
theorem ic_w_congr {E E' : Nat → Nat → Option Int32} {c : Nat} : ∀ m, (∀ i, i < m → E' (4 * i + c / 4) (c % 4) = E (4 * i + c / 4) (c % 4)) → ic_w E' c m = ic_w E c m
  | 0, _ => rfl
  | m + 1, h => by
    show (E' (4 * m + c / 4) (c % 4)).getD (ic_w E' c m) = (E (4 * m + c / 4) (c % 4)).getD (ic_w E c m)
    rw [h m (by omega), ic_w_congr m (fun i hi => h i (by omega))]
theorem ic_w_16 {E E' : Nat → Nat → Option Int32} {n c : Nat} (hn : n ≤ 3) (hc : c < 16) (h : ∀ k j, k < 16 → E' k j = E k j) : ic_w E' c (n + 1) = ic_w E c (n + 1) := ic_w_congr (n + 1) (fun i hi => h _ _ (by omega))
theorem ic_w_mg {E : Nat → Nat → Option Int32} {m c : Nat} (hc : c < 16) : ic_w (ic_mg E m) c (m + 1) = ic_w E c (m + 1 + 1) := by
  show (ic_mg E m (4 * m + c / 4) (c % 4)).getD (ic_w (ic_mg E m) c m) = (E (4 * (m + 1) + c / 4) (c % 4)).getD ((E (4 * m + c / 4) (c % 4)).getD (ic_w E c m))
  rw [ic_w_congr (E := E) m (fun i hi => by
    unfold ic_mg
    rw [if_neg (show ¬ (4 * i + c / 4) / 4 = m by omega), if_neg (show ¬ (4 * i + c / 4) / 4 = m + 1 by omega)])]
  have e : ic_mg E m (4 * m + c / 4) (c % 4) = if E (4 * (m + 1) + c / 4) (c % 4) = none then E (4 * m + c / 4) (c % 4) else E (4 * (m + 1) + c / 4) (c % 4) := by
    unfold ic_mg
    rw [if_pos (show (4 * m + c / 4) / 4 = m by omega), show 4 * m + c / 4 + 4 = 4 * (m + 1) + c / 4 by omega]
  rw [e]
  cases eo : E (4 * (m + 1) + c / 4) (c % 4) with
  | none => rw [if_pos rfl]; rfl
  | some v => rw [if_neg (Option.some_ne_none v)]; rfl
theorem ic_dg_congr {E E' : Nat → Nat → Option Int32} {n n' : Nat} (h : ∀ c, c < 16 → ic_w E c (n + 1) = ic_w E' c (n' + 1)) : ∀ i, i ≤ 16 → ic_dg E n i = ic_dg E' n' i
  | 0, _ => rfl
  | i + 1, hi => by
    show ic_dg E n i + (nI i + 1) * ic_w E i (n + 1) = ic_dg E' n' i + (nI i + 1) * ic_w E' i (n' + 1)
    rw [ic_dg_congr h i (by omega), h i (by omega)]
theorem ic_mk_0 {a6 : Nat → Int32} : ∀ i, (∀ c, c < i → a6 c = 0) → ic_mk a6 i = 0
  | 0, _ => rfl
  | i + 1, h => by
    show (if a6 i = 0 then ic_mk a6 i else ic_mk a6 i + 1) = 0
    rw [if_pos (h i (by omega)), ic_mk_0 i (fun c hc => h c (by omega))]
theorem ic_bh_0 {E : Nat → Nat → Option Int32} {n : Nat} {a6 a7 : Nat → Int32} : ∀ i, (∀ c, c < i → a6 c = 0) → ic_bh E n a6 a7 i = 0
  | 0, _ => rfl
  | i + 1, h => by
    show (if (if a6 i = 0 then a7 i else ic_w E i (n + 1)) = a7 i then ic_bh E n a6 a7 i else ic_bh E n a6 a7 i + 1) = 0
    rw [if_pos (show (if a6 i = 0 then a7 i else ic_w E i (n + 1)) = a7 i from if_pos (h i (by omega))), ic_bh_0 i (fun c hc => h c (by omega))]
theorem ic_bk6_0 {a6 : Nat → Int32} : ∀ c, c < 16 → ic_bk6 a6 16 c = 0 := fun c hc => if_pos hc
section
variable {po : Int32 → Prop} {ps : Int32 → St1 → Prop} {im sh1 sh2 x3 : Int32} {Z Z' : Nat → Prop} {E E' : Nat → Nat → Option Int32} {a1 a2 a3 a4 a5 a6 a7 a8 b1 b2 b3 b4 b5 b6 b7 b8 xs : Nat → Int32} {n n' s sh L kc ks : Nat} {u v : St1}
theorem ic_length (hp : po im) : wpX_length po (im, sh1, a1, a2, a3, a4, a5, a6, a7, a8) := hp
theorem ic_snaps (hp : po sh1) : wpX_snapshots po (im, sh1, a1, a2, a3, a4, a5, a6, a7, a8) := hp
theorem ic_equal (hA : ic_C Z E a1 a2 a3 a4 a5) (hB : ic_C Z' E b1 b2 b3 b4 b5) (hn : n ≤ 3) (hs : sh ≤ 4) (hp : po 1) : wpL_equal po (nI (n + 1), nI sh, a1, a2, a3, a4, a5, a6, a7, a8, nI (n + 1), nI sh, b1, b2, b3, b4, b5, a6, a7, b8) := by
  refine pk_loop (σ := Unit) (fun N i _ => wL_equal_2 po (nI (n + 1)) (nI sh) a1 a2 a3 a4 a5 a6 a7 a8 (nI (n + 1)) (nI sh) b1 b2 b3 b4 b5 a6 a7 b8 N (nI i)) (fun _ _ => True) 16 0 () (by omega) trivial ?_ ?_
  · intro N s _
    exact pk_le 16 16 (fun _ => ic_length (ic_length (br_t rfl (ic_snaps (ic_snaps (br_t rfl (ic_marked (ic_marked (br_t rfl (ic_behind hA hn (ic_behind hB hn (br_t rfl hp)))))))))))) (fun z => absurd z (by omega))
  · intro N i s hi _ hw
    refine pk_le 16 i (fun z => absurd z (by omega)) (fun _ => ?_)
    rw [ic_a3 hi]
    exact ic_read hA hn hi (ic_read hB hn hi (br_t rfl (ic_said hA hn hi (ic_said hB hn hi (br_t rfl (ic_saved hi (ic_saved hi (br_t rfl (ic_peek hA hn hs (by omega) hi (ic_peek hB hn hs (by omega) hi (br_t rfl (nm_r (nI_1 i) (hw () trivial)))))))))))))
theorem ic_reads (hA : ic_C Z E a1 a2 a3 a4 a5) (hB : ic_C Z' E' b1 b2 b3 b4 b5) (hn : n ≤ 3) (hn' : n' ≤ 3) (hw : ∀ c, c < 16 → ic_w E c (n + 1) = ic_w E' c (n' + 1)) (hp : po 1) : wpL_reads po (nI (n + 1), sh1, a1, a2, a3, a4, a5, a6, a7, a8, nI (n' + 1), sh2, b1, b2, b3, b4, b5, b6, b7, b8) := by
  refine pk_loop (σ := Unit) (fun N i _ => wL_reads_2 po (nI (n + 1)) sh1 a1 a2 a3 a4 a5 a6 a7 a8 (nI (n' + 1)) sh2 b1 b2 b3 b4 b5 b6 b7 b8 N (nI i)) (fun _ _ => True) 16 0 () (by omega) trivial ?_ ?_
  · intro N s _
    exact pk_le 16 16 (fun _ => ic_digest hA hn (ic_digest hB hn' (br_t (ic_dg_congr hw 16 (by omega)) hp))) (fun z => absurd z (by omega))
  · intro N i s hi _ hl
    exact pk_le 16 i (fun z => absurd z (by omega)) (fun _ => ic_read hA hn hi (ic_read hB hn' hi (br_t (hw i hi) (nm_r (nI_1 i) (hl () trivial)))))
theorem ic_l293 {z0 : Int32} (hA : ic_C Z E a1 a2 a3 a4 a5) (hB : ic_C Z' E' b1 b2 b3 b4 b5) (hn : n ≤ 3) (hn' : n' ≤ 3) (hw : ∀ c, c < 16 → ic_w E c (n + 1) = ic_w E' c (n' + 1)) (h6 : ∀ c, c < 16 → b6 c = 0) (hz : z0 < 0 ∨ n = n' + 1) :
    wL_law_293 (fun r => r = 1) L xs z0 kc ks (nI (n + 1)) sh1 a1 a2 a3 a4 a5 a6 a7 a8 (nI (n' + 1)) sh2 b1 b2 b3 b4 b5 b6 b7 b8 := by
  have m : wL_law_321 (fun r => r = 1) L xs kc ks (nI (n' + 1)) sh2 b1 b2 b3 b4 b5 b6 b7 b8 := by
    unfold wL_law_321
    exact ic_marked (br_t (ic_mk_0 16 h6) rfl)
  unfold wL_law_293
  refine ic_reads hA hB hn hn' hw (br_f (by decide) (br_c (fun _ => m) (fun g => ic_length (ic_length (br_t ?_ m)))))
  rcases hz with z | z
  · exact absurd z g
  · rw [z, nI_pred]
theorem ic_l241 (hA : ic_C Z E a1 a2 a3 a4 a5) (hv : ic_R n sh E' b6 b7 v) (hE : ∀ k j, k < 16 → E' k j = E k j) :
    wL_law_241 (fun r => r = 1) L xs x3 kc ks (nI (n + 1)) sh1 a1 a2 a3 a4 a5 a6 a7 a8 v.1 v.2.1 v.2.2.1 v.2.2.2.1 v.2.2.2.2.1 v.2.2.2.2.2.1 v.2.2.2.2.2.2.1 v.2.2.2.2.2.2.2.1 v.2.2.2.2.2.2.2.2.1 v.2.2.2.2.2.2.2.2.2 := by
  unfold wL_law_241
  refine ic_backupR (u := v) hv (fun r u' hr h' => ?_)
  obtain ⟨c1, c2, c3, c4, c5, c8, rfl, hn, hs, hC⟩ := h'
  have hw : ∀ c, c < 16 → ic_w E c (n + 1) = ic_w E' c (n + 1) := fun c hc => (ic_w_16 hn hc hE).symm
  refine br_f hr (ic_behind hC hn (br_t (ic_bh_0 16 ic_bk6_0) (ic_marked (br_t (ic_mk_0 16 ic_bk6_0) (ic_reads hA hC hn hn hw (br_f (by decide) ?_))))))
  have mg : ∀ m, n = m + 1 → ∀ r u', ic_R m sh (ic_mg E' m) (ic_bk6 b6 16) (ic_bk7 E' n b6 b7 16) u' → wL_law_293 (fun r => r = 1) L xs r kc ks (nI (n + 1)) sh1 a1 a2 a3 a4 a5 a6 a7 a8 u'.1 u'.2.1 u'.2.2.1 u'.2.2.2.1 u'.2.2.2.2.1 u'.2.2.2.2.2.1 u'.2.2.2.2.2.2.1 u'.2.2.2.2.2.2.2.1 u'.2.2.2.2.2.2.2.2.1 u'.2.2.2.2.2.2.2.2.2 := by
    intro m em r u' h'
    obtain ⟨d1, d2, d3, d4, d5, d8, rfl, hn', hs', hD⟩ := h'
    exact ic_l293 hA hD hn hn' (fun c hc => by rw [hw c hc, ic_w_mg hc, em]) ic_bk6_0 (Or.inr em)
  exact br_c (fun _ => ic_pull ⟨c1, c2, c3, c4, c5, c8, rfl, hn, hs, hC⟩ (fun _ => ic_l293 hA hC hn hn hw ic_bk6_0 (Or.inl (by decide))) (fun m em r u' h' => mg m em r u' h'))
    (fun _ => ic_commit ⟨c1, c2, c3, c4, c5, c8, rfl, hn, hs, hC⟩ (fun _ => ic_l293 hA hC hn hn hw ic_bk6_0 (Or.inl (by decide))) (fun m em _ r u' h' => mg m em r u' h'))
theorem ic_l189 (hA : ic_C Z E a1 a2 a3 a4 a5) (hv : ic_R n (sh + 1) E' b6 b7 v) (hE : ∀ k j, k < 16 → E' k j = E k j) :
    ∃ fu, wL_law_189 (fun r => r = 1) L xs x3 (nI sh) kc ks (nI (n + 1)) sh1 a1 a2 a3 a4 a5 a6 a7 a8 v.1 v.2.1 v.2.2.1 v.2.2.2.1 v.2.2.2.2.1 v.2.2.2.2.2.1 v.2.2.2.2.2.2.1 v.2.2.2.2.2.2.2.1 v.2.2.2.2.2.2.2.2.1 v.2.2.2.2.2.2.2.2.2 fu 0 := by
  obtain ⟨c1, c2, c3, c4, c5, c8, rfl, hn, hs, hC⟩ := hv
  refine pk_loop (σ := Unit) (fun N i _ => wL_law_189 (fun r => r = 1) L xs x3 (nI sh) kc ks (nI (n + 1)) sh1 a1 a2 a3 a4 a5 a6 a7 a8 (nI (n + 1)) (nI (sh + 1)) c1 c2 c3 c4 c5 b6 b7 c8 N (nI i)) (fun _ _ => True) 16 0 () (by omega) trivial ?_ ?_
  · intro N s _
    refine pk_le 16 16 (fun _ => ic_forget ⟨c1, c2, c3, c4, c5, c8, rfl, hn, hs, hC⟩ (by omega) (fun z => absurd z (by omega)) (fun q eq _ r u' h' => ic_l241 (v := u') hA h' (fun k j hk => ?_))) (fun z => absurd z (by omega))
    unfold ic_fg
    rw [if_neg (show ¬ (16 + 4 * sh ≤ k ∧ k < 16 + 4 * q) by omega), if_neg (show ¬ (16 + 4 * q ≤ k ∧ k < 16 + 4 * q + 4) by omega)]
    exact hE k j hk
  · intro N i s hi _ hl
    exact pk_le 16 i (fun z => absurd z (by omega)) (fun _ => ic_read hC hn hi (ic_read hA hn hi (br_t (ic_w_16 hn hi hE) (ic_said hC hn hi (ic_said hA hn hi (br_t (by rw [hE _ _ (by omega)]) (nm_r (nI_1 i) (hl () trivial))))))))
theorem ic_pt_off {c : Nat} {o : Option Int32} (hc : c < 16) {k j : Nat} (hk : k / 4 ≠ n) : ic_pt E n c o k j = E k j := if_neg (by omega)
theorem ic_fl_off {w : Int32} {c : Nat} : ∀ m, c + m ≤ 16 → ∀ k j, k / 4 ≠ n → (ic_fl E n a6 w c m).1 k j = E k j
  | 0, _, _, _, _ => rfl
  | m + 1, hm, k, j, hk => by
    show ic_pt (ic_fl E n a6 w c m).1 n (c + m) (some w) k j = E k j
    rw [ic_pt_off (by omega) hk, ic_fl_off m (by omega) k j hk]
theorem ic_l108 (hA : ic_C Z E a1 a2 a3 a4 a5) (hs4 : sh < 4) (hv : ic_R n (sh + 1) (ic_cp E (4 + sh) n) b6 b7 v) :
    ∃ fu, wL_law_108 (fun r => r = 1) L xs x3 (nI sh) kc ks fu 0 (nI (n + 1)) sh1 a1 a2 a3 a4 a5 a6 a7 a8 v.1 v.2.1 v.2.2.1 v.2.2.2.1 v.2.2.2.2.1 v.2.2.2.2.2.1 v.2.2.2.2.2.2.1 v.2.2.2.2.2.2.2.1 v.2.2.2.2.2.2.2.2.1 v.2.2.2.2.2.2.2.2.2 := by
  refine pk_loop (σ := St1) (fun N i v => wL_law_108 (fun r => r = 1) L xs x3 (nI sh) kc ks N (nI i) (nI (n + 1)) sh1 a1 a2 a3 a4 a5 a6 a7 a8 v.1 v.2.1 v.2.2.1 v.2.2.2.1 v.2.2.2.2.1 v.2.2.2.2.2.1 v.2.2.2.2.2.2.1 v.2.2.2.2.2.2.2.1 v.2.2.2.2.2.2.2.2.1 v.2.2.2.2.2.2.2.2.2) (fun i v => ∃ Ex b6 b7, ic_R n (sh + 1) Ex b6 b7 v ∧ ∀ k j, k / 4 ≠ n → Ex k j = ic_cp E (4 + sh) n k j) 6 0 v (by omega) ⟨_, _, _, hv, fun _ _ _ => rfl⟩ ?_ ?_
  · intro N v hI
    obtain ⟨Ex, d6, d7, hR, hX⟩ := hI
    have hn : n ≤ 3 := by
      obtain ⟨_, _, _, _, _, _, _, hn, _⟩ := hR
      exact hn
    obtain ⟨c, hc, ec⟩ := pk_andE x3 (m := 7) 3 (by decide)
    obtain ⟨d, hd, ed⟩ := pk_andE (x3 >>> ((3 : Int32) &&& 31)) (m := 7) 3 (by decide)
    have ed' : 8 + ((x3 >>> ((3 : Int32) &&& 31)) &&& 7) = nI (8 + d) := by rw [ed]; exact nI_add 8 d
    refine pk_le 6 6 (fun _ => ?_) (fun z => absurd z (by omega))
    rw [ec, ed']
    refine ic_fill (u := v) hR (by omega) (by omega) (fun r u' h' => ?_)
    refine ic_revert (u := u') h' hs4 (fun z => absurd z (by omega)) (fun _ r2 u2 h2 => ic_l189 (v := u2) hA h2 (fun k j hk => ?_))
    have hF : ∀ k j, k / 4 ≠ n → (ic_fl Ex n d6 5 c (8 + d + 1 - c)).1 k j = ic_cp E (4 + sh) n k j := fun k j hk => (ic_fl_off _ (by omega) k j hk).trans (hX k j hk)
    show (if k / 4 = n then (ic_fl Ex n d6 5 c (8 + d + 1 - c)).1 (4 * (4 + sh) + k % 4) j else (ic_fl Ex n d6 5 c (8 + d + 1 - c)).1 k j) = E k j
    by_cases ek : k / 4 = n
    · rw [if_pos ek, hF _ _ (by omega)]
      unfold ic_cp
      rw [if_pos (show (4 * (4 + sh) + k % 4) / 4 = 4 + sh by omega), show 4 * n + (4 * (4 + sh) + k % 4) % 4 = k by omega]
    · rw [if_neg ek, hF _ _ ek]
      unfold ic_cp
      rw [if_neg (show ¬ k / 4 = 4 + sh by omega)]
  · intro N i v hi hI hw
    obtain ⟨Ex, d6, d7, hR, hX⟩ := hI
    obtain ⟨c, hc, ec⟩ := pk_andE (x3 >>> ((4 * nI i) &&& 31)) (m := 15) 4 (by decide)
    refine pk_le 6 i (fun z => absurd z (by omega)) (fun _ => nm_r ec (br_c (fun _ => ic_write (u := v) hR hc (fun r u' h' => nm_r (nI_1 i) (hw u' ⟨_, _, _, h', fun k j hk => ?_⟩))) (fun _ => ic_discard (u := v) hR hc (fun r u' h' => nm_r (nI_1 i) (hw u' ⟨_, _, _, h', fun k j hk => ?_⟩)))))
    · exact (ic_pt_off hc hk).trans (hX k j hk)
    · exact (ic_pt_off hc hk).trans (hX k j hk)
theorem ic_l32 (hL : L ≤ 260) : ∀ N k n sh E a6 a7 u v, ic_R n sh E a6 a7 u → ic_R n sh E a6 a7 v → k ≤ 300 → 300 - k < N →
    wL_law_32 (fun r => r = 1) L xs x3 kc ks N (nI k) u.1 u.2.1 u.2.2.1 u.2.2.2.1 u.2.2.2.2.1 u.2.2.2.2.2.1 u.2.2.2.2.2.2.1 u.2.2.2.2.2.2.2.1 u.2.2.2.2.2.2.2.2.1 u.2.2.2.2.2.2.2.2.2 v.1 v.2.1 v.2.2.1 v.2.2.2.1 v.2.2.2.2.1 v.2.2.2.2.2.1 v.2.2.2.2.2.2.1 v.2.2.2.2.2.2.2.1 v.2.2.2.2.2.2.2.2.1 v.2.2.2.2.2.2.2.2.2 := by
  intro N
  induction N with
  | zero => intro k n sh E a6 a7 u v _ _ _ h; omega
  | succ N ih =>
    intro k n sh E a6 a7 u v hu hv hk hN
    refine pk_le L (k + 1) (fun _ => ?_) (fun hlt => ?_) rfl (nI_1 k)
    · obtain ⟨a1, a2, a3, a4, a5, a8, rfl, hn, hs, hA⟩ := hu
      refine ic_snapshot (u := v) hv (fun _ => br_t (by decide) (ic_l241 (v := v) hA hv (fun _ _ _ => rfl))) (fun hs4 u' h' => br_f (nI_pos (by omega)) (ic_l108 (v := u') hA hs4 h'))
    · obtain ⟨n', sh', E', a6', a7', H⟩ := ic_turn n sh E a6 a7 (xs (nI k).toNatClampNeg) (xs (nI k + 1).toNatClampNeg)
      refine ⟨pk_in k L (by omega), pk_in (k + 1) L (by omega) (nI_1 k), H u hu _ (fun r u' hu' => ?_)⟩
      refine ⟨pk_in k L (by omega), pk_in (k + 1) L (by omega) (nI_1 k), H v hv _ (fun r v' hv' => ?_)⟩
      refine ic_checkR (u := v') hv' (fun v2 hv2 => br_t rfl ?_)
      have IH := ih (k + 2) n' sh' E' a6' a7' u' v2 hu' hv2 (by omega) (by omega)
      obtain ⟨a1, a2, a3, a4, a5, a8, rfl, hn, hs, hA⟩ := hu'
      obtain ⟨b1, b2, b3, b4, b5, b8, rfl, _, _, hB⟩ := hv2
      exact ic_equal hA hB hn hs (br_f (by decide) (nm_r (nI_add k 2) IH))
theorem ic_l32e (hL : L ≤ 260) (hu : ic_R n sh E a6 a7 u) (hv : ic_R n sh E a6 a7 v) :
    ∃ fu, wL_law_32 (fun r => r = 1) L xs x3 kc ks fu 1 u.1 u.2.1 u.2.2.1 u.2.2.2.1 u.2.2.2.2.1 u.2.2.2.2.2.1 u.2.2.2.2.2.2.1 u.2.2.2.2.2.2.2.1 u.2.2.2.2.2.2.2.2.1 u.2.2.2.2.2.2.2.2.2 v.1 v.2.1 v.2.2.1 v.2.2.2.1 v.2.2.2.2.1 v.2.2.2.2.2.1 v.2.2.2.2.2.2.1 v.2.2.2.2.2.2.2.1 v.2.2.2.2.2.2.2.2.1 v.2.2.2.2.2.2.2.2.2 := by
  obtain ⟨N, hN⟩ : ∃ N, 300 - 1 < N := ⟨300, by omega⟩
  have H := ic_l32 (xs := xs) (x3 := x3) (kc := kc) (ks := ks) hL N 1 n sh E a6 a7 u v hu hv (by omega) hN
  rw [show nI 1 = (1 : Int32) from rfl] at H
  exact ⟨N, H⟩
theorem ic_init {post : St1 → Prop} (hp : ∀ a1, (∀ k, k < 32 → a1 k = -1) → post (1, 0, a1, (fun _ => 0), (fun _ => 0), (fun _ => 0), (fun _ => 0), (fun _ => 0), (fun _ => 0), (fun _ => 0))) : wpX_init post 8 524 (0, 0) := by
  refine ⟨by decide, by decide, by decide, by decide, by decide, by decide, by decide, by decide, by decide, by decide, by decide, by decide, by decide, by decide, by decide, by decide, ?_⟩
  refine pk_loop (fun N i s => wX_init_78 post 8 524 8 524 1 0 N (nI i) s (fun _ => 0) (fun _ => 0) (fun _ => 0) (fun _ => 0) (fun _ => 0) (fun _ => 0) (fun _ => 0)) (fun i s => ∀ k, k < i → s k = -1) 32 0 (fun _ => 0) (by omega) (fun k hk => absurd hk (by omega)) ?_ ?_
  · intro N s hI
    exact pk_le 32 32 (fun _ => hp s hI) (fun z => absurd z (by omega))
  · intro N i s hi hI hw
    refine pk_le 32 i (fun z => absurd z (by omega)) (fun _ => ⟨pk_in i 32 hi, nm_r (e' := upd s i (-1)) (by rw [nI_clamp (by omega)]) (nm_r (nI_1 i) (hw (upd s i (-1)) (fun k hk => ?_)))⟩)
    by_cases e : k = i
    · rw [e, pk_us]
    · rw [pk_un e]; exact hI k (by omega)
theorem ic_R0 (h : ∀ k, k < 32 → a1 k = -1) : ic_R 0 0 (fun _ _ => none) (fun _ => 0) (fun _ => 0) (1, 0, a1, (fun _ => 0), (fun _ => 0), (fun _ => 0), (fun _ => 0), (fun _ => 0), (fun _ => 0), (fun _ => 0)) := by
  refine ⟨a1, _, _, _, _, _, rfl, by omega, by omega, fun k hk => Or.inl (h k hk), fun t ht => ?_, fun p hp => ?_, fun k hk _ => h k hk, fun k j hk hj => ?_⟩
  · rw [ic_n_z (fun k hk z => ic_m1 (p := t) (by omega) (z.symm.trans (h k hk)))]
    rfl
  · rw [ic_n_z (fun q hq z => z.1 rfl)]
    rfl
  · rw [ic_ent_n (h k hk)]
    exact Or.inl ⟨rfl, rfl⟩
end
end
section
/-! ===== WHAT IS OWED for ImageChainLaw: one statement: the law answers true on every script of L ints xs ===== -/
theorem i_vc (xs : Nat → Int32) (L : Nat) (hL : L ≤ 260) : wpL_law (fun r => r = 1) L xs := by
  refine ⟨8, 524, by omega, by omega, ic_init (fun a1 ha => ⟨by omega, by omega, 8, 524, by omega, by omega, ic_init (fun b1 hb => ?_)⟩)⟩
  have R1 := ic_R0 ha
  have R2 := ic_R0 hb
  have W := fun x3 => ic_l32e (xs := xs) (x3 := x3) (kc := 1 + 8 + 1 + 8) (ks := 10 + 524 + 10 + 524) hL R1 R2
  exact pk_le L 0 (fun _ => W 0) (fun hl => ⟨pk_in 0 L hl, nm_e (W _)⟩)
end
