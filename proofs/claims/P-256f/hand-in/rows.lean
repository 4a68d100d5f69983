section
/-! rows pasted from the kit's rows (pk_), then sums, counts, chains, bits -/
theorem pk_us {f : Nat → Int32} {k : Nat} {x : Int32} : upd f k x k = x := if_pos rfl
theorem pk_un {f : Nat → Int32} {k j : Nat} {x : Int32} (h : j ≠ k) : upd f k x j = f j := if_neg h
theorem pk_uLs {f : Nat → Int64} {k : Nat} {x : Int64} : vp_updL f k x k = x := if_pos rfl
theorem pk_uLn {f : Nat → Int64} {k j : Nat} {x : Int64} (h : j ≠ k) : vp_updL f k x j = f j := if_neg h
theorem pk_m1 (n : Nat) : nI (n + 1) + (-1) = nI n := by
  rw [← nI_1, Int32.add_assoc, show (1 : Int32) + (-1) = 0 from rfl, Int32.add_zero]
theorem pk_mul (a b : Nat) : nI a * nI b = nI (a * b) := (Int32.ofNat_mul a b).symm
theorem dm_b1 : vp_nar .byte 1 = 1 := by rw [vp_nar_byte]; decide
theorem dm_b2 : vp_nar .byte 2 = 2 := by rw [vp_nar_byte]; decide
theorem dm_b3 : vp_nar .byte 3 = 3 := by rw [vp_nar_byte]; decide
theorem dm_sm1 : vp_nar .short (-1) = -1 := by rw [vp_nar_short]; decide
theorem dm_c1 : vp_nar .char 1 = 1 := by rw [vp_nar_char]; decide
theorem dm_c0 : vp_nar .char 0 = 0 := by rw [vp_nar_char]; decide
theorem dm_o1 : vp_nar .boolean 1 = 1 := rfl
theorem dm_o0 : vp_nar .boolean 0 = 0 := rfl
theorem dm_s16 : ∀ c, c < 64 → (nI c).toInt16.toInt32 = nI c := by decide +kernel
theorem dm_sN {c : Nat} (h : c < 64) : vp_nar .short (nI c) = nI c := by rw [vp_nar_short, dm_s16 c h]
theorem dm_sNN {c : Nat} (h : c < 64) : vp_nar .short (nI c).toInt16.toInt32 = nI c := by rw [dm_s16 c h, dm_sN h]
theorem dm_nm1 {c : Nat} (h : c < 64) : ¬ nI c = -1 := fun e => by
  have h2 : ¬ nI c < 0 := nI_pos (by omega)
  rw [e] at h2
  exact h2 (by decide)
/-! sums -/
def dm_sm (f : Nat → Nat) : Nat → Nat
  | 0 => 0
  | n + 1 => dm_sm f n + f n
theorem dm_smC {f g : Nat → Nat} : ∀ n, (∀ j, j < n → f j = g j) → dm_sm f n = dm_sm g n
  | 0, _ => rfl
  | n + 1, h => by
    show dm_sm f n + f n = dm_sm g n + g n
    rw [dm_smC n (fun j hj => h j (by omega)), h n (by omega)]
/-- one place changed -/
theorem dm_smU {f g : Nat → Nat} {k : Nat} : ∀ n, k < n → (∀ j, j < n → j ≠ k → g j = f j) → dm_sm g n + f k = dm_sm f n + g k
  | 0, hk, _ => absurd hk (Nat.not_lt_zero k)
  | n + 1, hk, h => by
    show dm_sm g n + g n + f k = dm_sm f n + f n + g k
    by_cases e : n = k
    · subst e
      have e2 : dm_sm g n = dm_sm f n := dm_smC n (fun j hj => h j (by omega) (by omega))
      omega
    · have e2 := dm_smU n (by omega) (fun j hj hjk => h j (by omega) hjk)
      have e3 := h n (by omega) e
      omega
theorem dm_smLt {f g : Nat → Nat} {k : Nat} : ∀ n, (∀ j, j < n → f j ≤ g j) → dm_sm f n ≤ dm_sm g n ∧ (k < n → f k < g k → dm_sm f n < dm_sm g n)
  | 0, _ => ⟨Nat.le_refl _, fun h => absurd h (Nat.not_lt_zero k)⟩
  | n + 1, h => by
    obtain ⟨h1, h2⟩ := dm_smLt (k := k) n (fun j hj => h j (by omega))
    have h3 := h n (by omega)
    refine ⟨?_, fun hk hlt => ?_⟩
    · show dm_sm f n + f n ≤ dm_sm g n + g n
      omega
    · show dm_sm f n + f n < dm_sm g n + g n
      by_cases e : k = n
      · subst e
        omega
      · have h4 := h2 (by omega) hlt
        omega
theorem dm_smB {f : Nat → Nat} : ∀ n, (∀ j, j < n → f j ≤ 1) → dm_sm f n ≤ n
  | 0, _ => Nat.le_refl _
  | n + 1, h => by
    show dm_sm f n + f n ≤ n + 1
    have h1 := dm_smB n (fun j hj => h j (by omega))
    have h2 := h n (by omega)
    omega
theorem dm_smF {f : Nat → Nat} : ∀ n, (∀ j, j < n → f j ≤ 1) → n ≤ dm_sm f n → ∀ j, j < n → f j = 1
  | 0, _, _ => fun j hj => absurd hj (Nat.not_lt_zero j)
  | n + 1, h, hn => fun j hj => by
    have hn' : n + 1 ≤ dm_sm f n + f n := hn
    have h1 := dm_smB n (fun j hj => h j (by omega))
    have h2 := h n (by omega)
    by_cases e : j = n
    · subst e
      omega
    · exact dm_smF n (fun j hj => h j (by omega)) (by omega) j (by omega)
theorem dm_smP {f : Nat → Nat} {k : Nat} : ∀ n, k < n → f k ≤ dm_sm f n
  | 0, h => absurd h (Nat.not_lt_zero k)
  | n + 1, h => by
    show f k ≤ dm_sm f n + f n
    by_cases e : k = n
    · subst e
      omega
    · have h1 := dm_smP (f := f) (k := k) n (by omega)
      omega
/-! counts -/
def dm_cnt (f : Nat → Nat) (k : Nat) : Nat → Nat
  | 0 => 0
  | n + 1 => dm_cnt f k n + (if f n = k then 1 else 0)
theorem dm_cntC {f g : Nat → Nat} {k : Nat} : ∀ n, (∀ c, c < n → f c = g c) → dm_cnt f k n = dm_cnt g k n
  | 0, _ => rfl
  | n + 1, h => by
    show dm_cnt f k n + (if f n = k then 1 else 0) = dm_cnt g k n + (if g n = k then 1 else 0)
    rw [dm_cntC n (fun j hj => h j (by omega)), h n (by omega)]
theorem dm_cntB {f : Nat → Nat} {k : Nat} : ∀ n, dm_cnt f k n ≤ n
  | 0 => Nat.le_refl _
  | n + 1 => by
    show dm_cnt f k n + (if f n = k then 1 else 0) ≤ n + 1
    have h1 := dm_cntB (f := f) (k := k) n
    split <;> omega
theorem dm_cntN {f : Nat → Nat} {k : Nat} : ∀ n, dm_cnt f k n ≠ 0 → ∃ c, c < n ∧ f c = k
  | 0, h => absurd rfl h
  | n + 1, h => by
    by_cases e : f n = k
    · exact ⟨n, by omega, e⟩
    · have h0 : dm_cnt f k n + (if f n = k then 1 else 0) ≠ 0 := h
      rw [if_neg e] at h0
      obtain ⟨c, hc, ec⟩ := dm_cntN n h0
      exact ⟨c, by omega, ec⟩
theorem dm_cntP {f : Nat → Nat} {k c : Nat} : ∀ n, c < n → f c = k → dm_cnt f k n ≠ 0
  | 0, h, _ => absurd h (Nat.not_lt_zero c)
  | n + 1, h, ec => by
    show dm_cnt f k n + (if f n = k then 1 else 0) ≠ 0
    by_cases e : c = n
    · subst e
      rw [if_pos ec]
      omega
    · have h1 := dm_cntP (f := f) (k := k) (c := c) n (by omega) ec
      omega
theorem dm_cntS {f : Nat → Nat} {K : Nat} : ∀ n, (∀ c, c < n → f c < K) → dm_sm (fun k => dm_cnt f k n) K = n
  | 0, _ => by
    have h0 : ∀ m, dm_sm (fun k => dm_cnt f k 0) m = 0 := fun m => by
      induction m with
      | zero => rfl
      | succ m ih => exact ih
    exact h0 K
  | n + 1, h => by
    have h1 := dm_cntS n (fun c hc => h c (by omega))
    have h2 := dm_smU (f := fun k => dm_cnt f k n) (g := fun k => dm_cnt f k (n + 1)) (k := f n) K (h n (by omega)) (fun j hj hne => by
      show dm_cnt f j n + (if f n = j then 1 else 0) = dm_cnt f j n
      rw [if_neg (Ne.symm hne), Nat.add_zero])
    have h3 : dm_cnt f (f n) (n + 1) = dm_cnt f (f n) n + 1 := by
      show dm_cnt f (f n) n + (if f n = f n then 1 else 0) = _
      rw [if_pos rfl]
    (try dsimp only at h2)
    omega
/-! the chain of a target: its greatest cell below n -/
def dm_pr (own : Nat → Nat) (t : Nat) : Nat → Int32
  | 0 => -1
  | n + 1 => if own n = t then nI n else dm_pr own t n
theorem dm_prC {own own' : Nat → Nat} {t : Nat} : ∀ n, (∀ c, c < n → own c = own' c) → dm_pr own t n = dm_pr own' t n
  | 0, _ => rfl
  | n + 1, h => by
    show (if own n = t then nI n else dm_pr own t n) = (if own' n = t then nI n else dm_pr own' t n)
    rw [dm_prC n (fun j hj => h j (by omega)), h n (by omega)]
theorem dm_prK {own : Nat → Nat} {t : Nat} : ∀ n, (dm_pr own t n = -1 ∧ ∀ c, c < n → own c ≠ t) ∨ ∃ c, c < n ∧ own c = t ∧ dm_pr own t n = nI c ∧ ∀ c', c < c' → c' < n → own c' ≠ t
  | 0 => Or.inl ⟨rfl, fun c hc => absurd hc (Nat.not_lt_zero c)⟩
  | n + 1 => by
    by_cases e : own n = t
    · exact Or.inr ⟨n, by omega, e, if_pos e, fun c' h1 h2 => by omega⟩
    · have e2 : dm_pr own t (n + 1) = dm_pr own t n := if_neg e
      rw [e2]
      rcases dm_prK (own := own) (t := t) n with ⟨h1, h2⟩ | ⟨c, h1, h2, h3, h4⟩
      · refine Or.inl ⟨h1, fun c hc => ?_⟩
        by_cases ec : c = n
        · subst ec
          exact e
        · exact h2 c (by omega)
      · refine Or.inr ⟨c, by omega, h2, h3, fun c' a b => ?_⟩
        by_cases ec : c' = n
        · subst ec
          exact e
        · exact h4 c' a (by omega)
theorem dm_pr0 {own : Nat → Nat} {t n : Nat} (h : ∀ c, c < n → own c ≠ t) : dm_pr own t n = -1 := by
  rcases dm_prK (own := own) (t := t) n with ⟨h1, _⟩ | ⟨c, h1, h2, _⟩
  · exact h1
  · exact absurd h2 (h c h1)
theorem dm_prS {own : Nat → Nat} {t n : Nat} (h : n ≤ 64) : vp_nar .short (dm_pr own t n) = dm_pr own t n := by
  rcases dm_prK (own := own) (t := t) n with ⟨h1, _⟩ | ⟨c, h1, _, h2, _⟩
  · rw [h1, dm_sm1]
  · rw [h2, dm_sN (by omega)]
/-! tainted sets, their bits and states -/
def dm_bit (d : Nat) : Int64 := (1 : Int64) <<< ((nI d).toInt64 &&& 63)
def dm_bs (T : Nat → Bool) : Nat → Int64
  | 0 => 0
  | n + 1 => dm_bs T n ||| (if T n = true then dm_bit n else 0)
def dm_ad (T : Nat → Bool) (d : Nat) : Nat → Bool := fun j => if j = d then true else T j
theorem dm_ads {T : Nat → Bool} {d : Nat} : dm_ad T d d = true := if_pos rfl
theorem dm_adn {T : Nat → Bool} {d j : Nat} (h : j ≠ d) : dm_ad T d j = T j := if_neg h
theorem dm_adm {T : Nat → Bool} {d j : Nat} (h : T j = true) : dm_ad T d j = true := by
  by_cases e : j = d
  · rw [e, dm_ads]
  · rw [dm_adn e, h]
theorem dm_bsC {T T' : Nat → Bool} : ∀ n, (∀ j, j < n → T j = T' j) → dm_bs T n = dm_bs T' n
  | 0, _ => rfl
  | n + 1, h => by
    show dm_bs T n ||| (if T n = true then dm_bit n else 0) = dm_bs T' n ||| (if T' n = true then dm_bit n else 0)
    rw [dm_bsC n (fun j hj => h j (by omega)), h n (by omega)]
theorem dm_bs0 : ∀ n, dm_bs (fun _ => false) n = 0
  | 0 => rfl
  | n + 1 => by
    show dm_bs (fun _ => false) n ||| (if false = true then dm_bit n else 0) = 0
    rw [dm_bs0 n, if_neg (by decide)]
    rfl
theorem dm_bsA {T : Nat → Bool} {d : Nat} (hT : T d = false) : ∀ n, d < n → dm_bs (dm_ad T d) n = dm_bs T n ||| dm_bit d
  | 0, h => absurd h (Nat.not_lt_zero d)
  | n + 1, h => by
    show dm_bs (dm_ad T d) n ||| (if dm_ad T d n = true then dm_bit n else 0) = (dm_bs T n ||| (if T n = true then dm_bit n else 0)) ||| dm_bit d
    by_cases e : n = d
    · subst e
      rw [dm_bsC (T := dm_ad T n) (T' := T) n (fun j hj => dm_adn (by omega)), if_pos dm_ads, if_neg (by rw [hT]; decide), Int64.or_zero]
    · rw [dm_bsA hT n (by omega), dm_adn e, Int64.or_assoc, Int64.or_assoc, Int64.or_comm (dm_bit d)]
def dm_m3 (T : Nat → Bool) (f : Nat → Int32) : Nat → Int32 := fun j => if T j = true then 3 else f j
def dm_mL (T : Nat → Bool) (x : Int64) (f : Nat → Int64) : Nat → Int64 := fun j => if T j = true then x else f j
theorem dm_m3t {T : Nat → Bool} {f : Nat → Int32} {j : Nat} (h : T j = true) : dm_m3 T f j = 3 := if_pos h
theorem dm_m3f {T : Nat → Bool} {f : Nat → Int32} {j : Nat} (h : T j = false) : dm_m3 T f j = f j := if_neg (by rw [h]; decide)
theorem dm_mLt {T : Nat → Bool} {x : Int64} {f : Nat → Int64} {j : Nat} (h : T j = true) : dm_mL T x f j = x := if_pos h
theorem dm_mLf {T : Nat → Bool} {x : Int64} {f : Nat → Int64} {j : Nat} (h : T j = false) : dm_mL T x f j = f j := if_neg (by rw [h]; decide)
theorem dm_m3a (T : Nat → Bool) (f : Nat → Int32) (d : Nat) : upd (dm_m3 T f) d 3 = dm_m3 (dm_ad T d) f := by
  funext j
  by_cases e : j = d
  · subst e
    rw [pk_us, dm_m3t dm_ads]
  · rw [pk_un e]
    show (if T j = true then 3 else f j) = (if dm_ad T d j = true then 3 else f j)
    rw [dm_adn e]
theorem dm_mLa (T : Nat → Bool) (x : Int64) (f : Nat → Int64) (d : Nat) : vp_updL (dm_mL T x f) d x = dm_mL (dm_ad T d) x f := by
  funext j
  by_cases e : j = d
  · subst e
    rw [pk_uLs, dm_mLt dm_ads]
  · rw [pk_uLn e]
    show (if T j = true then x else f j) = (if dm_ad T d j = true then x else f j)
    rw [dm_adn e]
theorem dm_m3e (f : Nat → Int32) : dm_m3 (fun _ => false) f = f := by
  funext j
  exact dm_m3f rfl
theorem dm_mLe (x : Int64) (f : Nat → Int64) : dm_mL (fun _ => false) x f = f := by
  funext j
  exact dm_mLf rfl
def dm_up (M : Nat → Nat) (t c : Nat) : Nat → Nat := fun j => if j = t then c else M j
theorem dm_ups {M : Nat → Nat} {t c : Nat} : dm_up M t c t = c := if_pos rfl
theorem dm_upn {M : Nat → Nat} {t c j : Nat} (h : j ≠ t) : dm_up M t c j = M j := if_neg h
end
section
/-! the component's taint: a walk of chains with a stack -/
/-- closed under 'cell c: dv c hangs on own c', through handles of status 2 -/
def dm_Cl (us : Nat) (own dv : Nat → Nat) (st : Nat → Int32) (P : Nat → Prop) : Prop := ∀ c, c < us → P (own c) → st (dv c) = 2 → P (dv c)
/-- T is the least closed set that holds s -/
def dm_O (s sz us : Nat) (own dv : Nat → Nat) (st : Nat → Int32) (T : Nat → Bool) : Prop :=
  T s = true ∧ (∀ j, T j = true → j < sz ∧ st j = 2) ∧ (∀ P : Nat → Prop, dm_Cl us own dv st P → P s → ∀ j, T j = true → P j) ∧ dm_Cl us own dv st (fun j => T j = true)
theorem dm_Ou {s sz us : Nat} {own dv : Nat → Nat} {st : Nat → Int32} {T T' : Nat → Bool} (h : dm_O s sz us own dv st T) (h' : dm_O s sz us own dv st T') : T = T' := by
  obtain ⟨a1, _, a3, a4⟩ := h
  obtain ⟨b1, _, b3, b4⟩ := h'
  funext j
  cases e : T j with
  | true => exact (a3 _ b4 b1 j e).symm
  | false =>
    cases e' : T' j with
    | false => rfl
    | true => exact absurd (b3 _ a4 a1 j e') (by rw [e]; decide)
/-- what the cells hold -/
def dm_B (sz us : Nat) (own dv : Nat → Nat) (nx vl : Nat → Int32) : Prop :=
  sz ≤ 8 ∧ us ≤ 16 ∧ ∀ c, c < us → own c < sz ∧ dv c < sz ∧ vl c = nI (dv c) ∧ nx c = dm_pr own (own c) c
/-- the number of handles that are unknown still -/
def dm_c2 (sz : Nat) (st : Nat → Int32) (T : Nat → Bool) : Nat := dm_sm (fun j => if st j = 2 ∧ T j = false then 1 else 0) sz
def dm_St (T : Nat → Bool) (sk : Nat → Int32) (sp : Nat) : Prop := ∀ i, i < sp → ∃ t, T t = true ∧ sk i = nI t
def dm_Sk (T : Nat → Bool) (hd sk : Nat → Int32) (sp : Nat) : Prop := ∀ t, T t = true → (∃ i, i < sp ∧ sk i = nI t) ∨ hd t = -1
/-- the loop's invariant; M t: the cells of t from M t on are done -/
def dm_I (s sz us : Nat) (own dv : Nat → Nat) (st : Nat → Int32) (T : Nat → Bool) (M : Nat → Nat) (hd sk : Nat → Int32) (sp : Nat) : Prop :=
  T s = true ∧ (∀ j, T j = true → j < sz ∧ st j = 2) ∧ (∀ P : Nat → Prop, dm_Cl us own dv st P → P s → ∀ j, T j = true → P j) ∧
  (∀ t, t < sz → st t = 2 → hd t = dm_pr own t (M t)) ∧ (∀ t, M t ≤ us) ∧ (∀ t, T t = false → M t = us) ∧
  (∀ c, c < us → M (own c) ≤ c → T (dv c) = true ∨ st (dv c) ≠ 2) ∧ dm_St T sk sp ∧ dm_Sk T hd sk sp ∧ sp + dm_c2 sz st T ≤ 8
theorem dm_c2a {sz : Nat} {st : Nat → Int32} {T : Nat → Bool} {d : Nat} (hd : d < sz) (h2 : st d = 2) (hT : T d = false) : dm_c2 sz st (dm_ad T d) + 1 = dm_c2 sz st T := by
  have h := dm_smU (f := fun j => if st j = 2 ∧ T j = false then 1 else 0) (g := fun j => if st j = 2 ∧ dm_ad T d j = false then 1 else 0) (k := d) sz hd (fun j hj hne => by
    show (if st j = 2 ∧ dm_ad T d j = false then 1 else 0) = (if st j = 2 ∧ T j = false then 1 else 0)
    rw [dm_adn hne])
  (try dsimp only at h)
  rw [if_pos ⟨h2, hT⟩, if_neg (fun z => by rw [dm_ads] at z; exact absurd z.2 (by decide))] at h
  exact h
section
variable {s sz us : Nat} {own dv : Nat → Nat} {st nx vl : Nat → Int32} {T : Nat → Bool} {M : Nat → Nat} {hd sk : Nat → Int32}
theorem dm_Ipop {q t : Nat} (I : dm_I s sz us own dv st T M hd sk (q + 1)) (hsz : sz ≤ 8) (ht : T t = true) (et : sk q = nI t) (eh : hd t = -1) : dm_I s sz us own dv st T M hd sk q := by
  obtain ⟨a1, a2, a3, a4, a5, a6, a7, a8, a9, a10⟩ := I
  refine ⟨a1, a2, a3, a4, a5, a6, a7, fun i hi => a8 i (by omega), fun t' ht' => ?_, by omega⟩
  rcases a9 t' ht' with ⟨i, hi, e⟩ | e
  · by_cases eq : i = q
    · subst eq
      rw [et] at e
      have b1 := (a2 t ht).1
      have b2 := (a2 t' ht').1
      have e2 : t = t' := (nI_eq (by omega) (by omega)).mp e
      subst e2
      exact Or.inr eh
    · exact Or.inl ⟨i, by omega, e⟩
  · exact Or.inr e
/-- one cell done: M and head change -/
theorem dm_Icell {q t c : Nat} (B : dm_B sz us own dv nx vl) (I : dm_I s sz us own dv st T M hd sk (q + 1)) (ht : T t = true) (et : sk q = nI t) (hc : c < M t) (ec : own c = t) (hno : ∀ c', c < c' → c' < M t → own c' ≠ t) :
    (∀ t', t' < sz → st t' = 2 → upd hd t (nx c) t' = dm_pr own t' ((dm_up M t c) t')) ∧
    (∀ t', (dm_up M t c) t' ≤ us) ∧
    (∀ t', T t' = false → (dm_up M t c) t' = us) ∧
    (∀ c1, c1 < us → (dm_up M t c) (own c1) ≤ c1 → c1 = c ∨ T (dv c1) = true ∨ st (dv c1) ≠ 2) ∧
    (∀ t', T t' = true → (∃ i, i < q + 1 ∧ sk i = nI t') ∨ upd hd t (nx c) t' = -1) ∧
    dm_sm (dm_up M t c) sz < dm_sm M sz := by
  obtain ⟨a1, a2, a3, a4, a5, a6, a7, a8, a9, a10⟩ := I
  obtain ⟨b1, b2, b3⟩ := B
  have hM := a5 t
  have hcu : c < us := by omega
  obtain ⟨c1, c2, c3, c4⟩ := b3 c hcu
  have hts := (a2 t ht).1
  refine ⟨fun t' h1 h2 => ?_, fun t' => ?_, fun t' h1 => ?_, fun k h1 h2 => ?_, fun t' h1 => ?_, ?_⟩
  · by_cases e : t' = t
    · rw [e, pk_us, dm_ups, c4, ec]
    · rw [pk_un e, dm_upn e]
      exact a4 t' h1 h2
  · by_cases e : t' = t
    · rw [e, dm_ups]
      omega
    · rw [dm_upn e]
      exact a5 t'
  · rw [dm_upn (fun e => by rw [e, ht] at h1; exact absurd h1 (by decide))]
    exact a6 t' h1
  · by_cases e : own k = t
    · rw [e, dm_ups] at h2
      by_cases e2 : k = c
      · exact Or.inl e2
      · by_cases e3 : k < M t
        · exact absurd e (hno k (by omega) e3)
        · exact Or.inr (a7 k h1 (by rw [e]; omega))
    · rw [dm_upn e] at h2
      exact Or.inr (a7 k h1 h2)
  · by_cases e : t' = t
    · subst e
      exact Or.inl ⟨q, by omega, et⟩
    · rw [pk_un e]
      exact a9 t' h1
  · have h := dm_smU (f := M) (g := dm_up M t c) (k := t) sz hts (fun j hj hne => dm_upn hne)
    rw [dm_ups] at h
    omega
/-- a cell whose dependent isn't unknown any more -/
theorem dm_Iskip {q t c : Nat} (B : dm_B sz us own dv nx vl) (I : dm_I s sz us own dv st T M hd sk (q + 1)) (ht : T t = true) (et : sk q = nI t) (hc : c < M t) (ec : own c = t) (hno : ∀ c', c < c' → c' < M t → own c' ≠ t) (hn : T (dv c) = true ∨ st (dv c) ≠ 2) :
    dm_I s sz us own dv st T (dm_up M t c) (upd hd t (nx c)) sk (q + 1) := by
  obtain ⟨k1, k2, k3, k4, k5, _⟩ := dm_Icell B I ht et hc ec hno
  obtain ⟨a1, a2, a3, a4, a5, a6, a7, a8, a9, a10⟩ := I
  refine ⟨a1, a2, a3, k1, k2, k3, fun c1 h1 h2 => ?_, a8, k5, a10⟩
  rcases k4 c1 h1 h2 with e | e
  · rw [e]
    exact hn
  · exact e
/-- a cell whose dependent is tainted now -/
theorem dm_Ipush {q t c : Nat} (B : dm_B sz us own dv nx vl) (I : dm_I s sz us own dv st T M hd sk (q + 1)) (ht : T t = true) (et : sk q = nI t) (hc : c < M t) (ec : own c = t) (hno : ∀ c', c < c' → c' < M t → own c' ≠ t) (hT : T (dv c) = false) (h2 : st (dv c) = 2) :
    q + 1 < 8 ∧ dm_I s sz us own dv st (dm_ad T (dv c)) (dm_up M t c) (upd hd t (nx c)) (upd sk (q + 1) (nI (dv c))) (q + 2) := by
  obtain ⟨k1, k2, k3, k4, k5, _⟩ := dm_Icell B I ht et hc ec hno
  obtain ⟨a1, a2, a3, a4, a5, a6, a7, a8, a9, a10⟩ := I
  obtain ⟨b1, b2, b3⟩ := B
  have hM := a5 t
  have hcu : c < us := by omega
  obtain ⟨_, hds, _, _⟩ := b3 c hcu
  have hcn := dm_c2a hds h2 hT
  refine ⟨by omega, dm_adm a1, fun j hj => ?_, fun P hP hs j hj => ?_, k1, k2, fun t' h1 => ?_, fun c1 h1 h3 => ?_, fun i hi => ?_, fun t' h1 => ?_, by omega⟩
  · by_cases e : j = dv c
    · rw [e]
      exact ⟨hds, h2⟩
    · rw [dm_adn e] at hj
      exact a2 j hj
  · by_cases e : j = dv c
    · rw [e]
      exact hP c hcu (a3 P hP hs _ (by rw [ec]; exact ht)) h2
    · rw [dm_adn e] at hj
      exact a3 P hP hs j hj
  · refine k3 t' ?_
    by_cases e : t' = dv c
    · rw [e]
      exact hT
    · rw [dm_adn e] at h1
      exact h1
  · rcases k4 c1 h1 h3 with e | e | e
    · rw [e]
      exact Or.inl dm_ads
    · exact Or.inl (dm_adm e)
    · exact Or.inr e
  · by_cases e : i = q + 1
    · subst e
      exact ⟨dv c, dm_ads, pk_us⟩
    · obtain ⟨t', h1, h3⟩ := a8 i (by omega)
      exact ⟨t', dm_adm h1, by rw [pk_un e]; exact h3⟩
  · by_cases e : t' = dv c
    · rw [e]
      exact Or.inl ⟨q + 1, by omega, pk_us⟩
    · rw [dm_adn e] at h1
      rcases k5 t' h1 with ⟨i, hi, e2⟩ | e2
      · exact Or.inl ⟨i, by omega, by rw [pk_un (by omega)]; exact e2⟩
      · exact Or.inr e2
theorem dm_Iend (I : dm_I s sz us own dv st T M hd sk 0) (B : dm_B sz us own dv nx vl) : dm_O s sz us own dv st T := by
  obtain ⟨a1, a2, a3, a4, a5, a6, a7, a8, a9, a10⟩ := I
  obtain ⟨b1, b2, b3⟩ := B
  refine ⟨a1, a2, a3, fun c hc ho h2 => ?_⟩
  rcases a9 (own c) ho with ⟨i, hi, _⟩ | e
  · exact absurd hi (Nat.not_lt_zero i)
  · obtain ⟨z1, z2⟩ := a2 _ ho
    have h1 := a4 (own c) z1 z2
    have hM := a5 (own c)
    rw [e] at h1
    rcases dm_prK (own := own) (t := own c) (M (own c)) with ⟨_, g⟩ | ⟨k, g1, _, g2, _⟩
    · by_cases z : c < M (own c)
      · exact absurd rfl (g c z)
      · rcases a7 c hc (by omega) with z | z
        · exact z
        · exact absurd h2 z
    · rw [g2] at h1
      exact absurd h1.symm (dm_nm1 (by omega))
end
end
section
/-! the component's taint: the walk -/
section
variable {s sz us cap : Nat} {own dv : Nat → Nat} {st nx vl : Nat → Int32} {ex : Nat → Int64} {low : Int32} {id : Int64}
theorem dm_xloop (B : dm_B sz us own dv nx vl) : ∀ (n : Nat) (T : Nat → Bool) (M : Nat → Nat) (hd sk : Nat → Int32) (sp : Nat), dm_I s sz us own dv st T M hd sk sp → 2 * dm_sm M sz + sp < n →
    ∃ (T' : Nat → Bool) (M' : Nat → Nat) (hd' sk' : Nat → Int32), dm_I s sz us own dv st T' M' hd' sk' 0 ∧
      ∀ post : Int64 → SX → Prop, post (dm_bs T' sz) (nI cap, nI us, low, nI sz, dm_m3 T' st, dm_mL T' id ex, hd', nx, vl, sk') →
        wX_taint_54 post id (nI cap) (nI us) low (nI sz) n (dm_bs T sz) (nI sp) (dm_m3 T st) (dm_mL T id ex) hd nx vl sk := by
  intro n
  induction n with
  | zero => intro T M hd sk sp I hn; omega
  | succ n ih =>
    intro T M hd sk sp I hn
    cases sp with
    | zero => exact ⟨T, M, hd, sk, I, fun post hp => br_t (show nI 0 ≤ 0 by decide) hp⟩
    | succ q =>
      have I0 := I
      have B0 := B
      obtain ⟨a1, a2, a3, a4, a5, a6, a7, a8, a9, a10⟩ := I0
      obtain ⟨b1, b2, b3⟩ := B0
      obtain ⟨t, ht, et⟩ := a8 q (by omega)
      obtain ⟨hts, ht2⟩ := a2 t ht
      have hMt := a5 t
      have hne : ¬ nI (q + 1) ≤ 0 := nI_nle (by omega) (by omega)
      have hin : vp_in (nI (q + 1) - 1) 8 := by rw [nI_pred]; exact vp_in_nI (by omega) (by omega)
      have esk : sk (nI (q + 1) - 1).toNatClampNeg = nI t := by rw [nI_pred, nI_clamp (by omega)]; exact et
      have hit : vp_in (nI t) 8 := vp_in_nI (by omega) (by omega)
      have ect : (nI t).toNatClampNeg = t := nI_clamp (by omega)
      have eht := a4 t hts ht2
      rcases dm_prK (own := own) (t := t) (M t) with ⟨g, _⟩ | ⟨c, hc, ec, g, hno⟩
      · have eh : hd t = -1 := eht.trans g
        obtain ⟨T', M', hd', sk', I', W⟩ := ih T M hd sk q (dm_Ipop I b1 ht et eh) (by omega)
        refine ⟨T', M', hd', sk', I', fun post hp => br_f hne ⟨hin, nm_r esk ⟨hit, ?_⟩⟩⟩
        refine nm_r (e' := -1) (by rw [ect]; exact eh) ?_
        refine br_f (by decide) ?_
        exact nm_r (nI_pred q) (W post hp)
      · have ehc : hd (nI t).toNatClampNeg = nI c := by rw [ect]; exact eht.trans g
        obtain ⟨_, hds, evl, enx⟩ := b3 c (by omega)
        have hic : vp_in (nI c) 16 := vp_in_nI (by omega) (by omega)
        have ecc : (nI c).toNatClampNeg = c := nI_clamp (by omega)
        have hid : vp_in (nI (dv c)) 8 := vp_in_nI (by omega) (by omega)
        have ecd : (nI (dv c)).toNatClampNeg = dv c := nI_clamp (by omega)
        have ehd : upd hd (nI t).toNatClampNeg (vp_nar .short (nx (nI c).toNatClampNeg)) = upd hd t (nx c) := by
          rw [ect, ecc, enx, dm_prS (by omega)]
        have hmu := (dm_Icell B I ht et hc ec hno).2.2.2.2.2
        by_cases z : dm_m3 T st (dv c) = 2
        · have hT : T (dv c) = false := by
            cases e : T (dv c) with
            | false => rfl
            | true => rw [dm_m3t e] at z; exact absurd z (by decide)
          have h2 : st (dv c) = 2 := by rw [dm_m3f hT] at z; exact z
          obtain ⟨hq, Ip⟩ := dm_Ipush B I ht et hc ec hno hT h2
          obtain ⟨T', M', hd', sk', I', W⟩ := ih _ _ _ _ _ Ip (by omega)
          refine ⟨T', M', hd', sk', I', fun post hp => br_f hne ⟨hin, nm_r esk ⟨hit, nm_r ehc (br_t (nI_pos' (by omega)) ⟨hic, hit, nm_r ehd ⟨hic, ?_⟩⟩)⟩⟩⟩
          refine nm_r (e' := nI (dv c)) (by rw [ecc]; exact evl) ⟨hid, br_t (by rw [ecd]; exact z) ⟨hid, ?_⟩⟩
          refine nm_r (e' := dm_m3 (dm_ad T (dv c)) st) (by rw [ecd, dm_b3, dm_m3a]) ⟨hid, ?_⟩
          refine nm_r (e' := dm_mL (dm_ad T (dv c)) id ex) (by rw [ecd, dm_mLa]) ?_
          refine nm_r (e' := dm_bs (dm_ad T (dv c)) sz) (dm_bsA hT sz hds).symm ⟨vp_in_nI hq (by omega), ?_⟩
          refine nm_r (e' := upd sk (q + 1) (nI (dv c))) (by rw [nI_clamp (by omega)]) ?_
          exact nm_r (nI_1 (q + 1)) (W post hp)
        · have hn2 : T (dv c) = true ∨ st (dv c) ≠ 2 := by
            cases e : T (dv c) with
            | true => exact Or.inl rfl
            | false => rw [dm_m3f e] at z; exact Or.inr z
          obtain ⟨T', M', hd', sk', I', W⟩ := ih _ _ _ _ _ (dm_Iskip B I ht et hc ec hno hn2) (by omega)
          refine ⟨T', M', hd', sk', I', fun post hp => br_f hne ⟨hin, nm_r esk ⟨hit, nm_r ehc (br_t (nI_pos' (by omega)) ⟨hic, hit, nm_r ehd ⟨hic, ?_⟩⟩)⟩⟩⟩
          exact nm_r (e' := nI (dv c)) (by rw [ecc]; exact evl) ⟨hid, br_f (by rw [ecd]; exact z) (W post hp)⟩
theorem dm_I0 (B : dm_B sz us own dv nx vl) {hd : Nat → Int32} (sk : Nat → Int32) (hs : s < sz) (h2 : st s = 2) (hh : ∀ t, t < sz → st t = 2 → hd t = dm_pr own t us) :
    dm_I s sz us own dv st (dm_ad (fun _ => false) s) (fun _ => us) hd (upd sk 0 (nI s)) 1 := by
  obtain ⟨b1, b2, b3⟩ := B
  have hj : ∀ j, dm_ad (fun _ => false) s j = true → j = s := fun j hj => by
    by_cases e : j = s
    · exact e
    · rw [dm_adn e] at hj
      exact absurd hj (by decide)
  have hc := dm_c2a (T := fun _ => false) hs h2 rfl
  have hb : dm_c2 sz st (fun _ => false) ≤ sz := dm_smB sz (fun j _ => by (try dsimp only); split <;> omega)
  refine ⟨dm_ads, fun j h => ?_, fun P hP hs' j h => ?_, hh, fun _ => Nat.le_refl us, fun _ _ => rfl, fun c h1 h3 => absurd h1 (by (try dsimp only at h3); omega), fun i hi => ?_, fun t h => ?_, by omega⟩
  · rw [hj j h]
    exact ⟨hs, h2⟩
  · rw [hj j h]
    exact hs'
  · have e : i = 0 := by omega
    subst e
    exact ⟨s, dm_ads, pk_us⟩
  · rw [hj t h]
    exact Or.inl ⟨0, by omega, pk_us⟩
theorem dm_xtaint (B : dm_B sz us own dv nx vl) {hd : Nat → Int32} (sk : Nat → Int32) (hs : s < sz) (h2 : st s = 2) (hh : ∀ t, t < sz → st t = 2 → hd t = dm_pr own t us) :
    ∃ (T : Nat → Bool) (hd' sk' : Nat → Int32), dm_O s sz us own dv st T ∧ (∀ t, t < sz → st t = 2 → T t = false → hd' t = dm_pr own t us) ∧
      ∀ post : Int64 → SX → Prop, post (dm_bs T sz) (nI cap, nI us, low, nI sz, dm_m3 T st, dm_mL T id ex, hd', nx, vl, sk') →
        wpX_taint post (nI cap, nI us, low, nI sz, st, ex, hd, nx, vl, sk) (nI s) id := by
  obtain ⟨T, M, hd', sk', I', W⟩ := dm_xloop (cap := cap) (ex := ex) (low := low) (id := id) B _ _ _ _ _ _ (dm_I0 B sk hs h2 hh) (Nat.lt_succ_self _)
  have b1 := B.1
  have hin : vp_in (nI s) 8 := vp_in_nI (by omega) (by omega)
  have ecs : (nI s).toNatClampNeg = s := nI_clamp (by omega)
  refine ⟨T, hd', sk', dm_Iend I' B, fun t h1 h3 h4 => ?_, fun post hp => ?_⟩
  · obtain ⟨a1, a2, a3, a4, a5, a6, a7, a8, a9, a10⟩ := I'
    rw [a4 t h1 h3, a6 t h4]
  · refine And.intro hin (br_f (by rw [ecs, h2]; decide) ⟨hin, ?_⟩)
    refine nm_r (e' := dm_m3 (dm_ad (fun _ => false) s) st) (by rw [ecs, dm_b3, ← dm_m3a, dm_m3e]) ⟨hin, ?_⟩
    refine nm_r (e' := dm_mL (dm_ad (fun _ => false) s) id ex) (by rw [ecs, ← dm_mLa, dm_mLe]) ?_
    refine nm_r (e' := dm_bs (dm_ad (fun _ => false) s) sz) (by rw [dm_bsA rfl sz hs, dm_bs0]; rfl) ?_
    refine nm_e ?_
    refine nm_r (e' := nI 1) (by decide) ?_
    exact ⟨_, W post hp⟩
end
end
section
/-! the reference's closure by passes -/
def dm_CY (cap sz : Nat) (st edge : Nat → Int32) (P : Nat → Prop) : Prop := ∀ d t, d < sz → t < sz → P t → st d = 2 → ¬ edge (d * cap + t) = 0 → P d
/-- the marks grow, within every closed set -/
def dm_S (cap sz : Nat) (st edge : Nat → Int32) (mk mk' : Nat → Int32) : Prop :=
  (∀ j, j < sz → ¬ mk j = 0 → ¬ mk' j = 0) ∧ (∀ P : Nat → Prop, dm_CY cap sz st edge P → (∀ j, j < sz → ¬ mk j = 0 → P j) → ∀ j, j < sz → ¬ mk' j = 0 → P j)
def dm_cn (sz : Nat) (mk : Nat → Int32) : Nat := dm_sm (fun j => if mk j = 0 then 0 else 1) sz
theorem dm_ix {d cap t : Nat} (hd : d < 8) (hc : cap ≤ 8) (ht : t < 8) : d * cap + t < 64 := by
  have h : d * cap ≤ 7 * 8 := Nat.mul_le_mul (by omega) hc
  omega
section
variable {sz cap s : Nat} {st edge op : Nat → Int32} {ex : Nat → Int64} {id : Int64}
theorem dm_Sr {mk : Nat → Int32} : dm_S cap sz st edge mk mk := ⟨fun _ _ h => h, fun _ _ h => h⟩
theorem dm_Str {a b c : Nat → Int32} (h : dm_S cap sz st edge a b) (h' : dm_S cap sz st edge b c) : dm_S cap sz st edge a c :=
  ⟨fun j hj z => h'.1 j hj (h.1 j hj z), fun P hP z => h'.2 P hP (h.2 P hP z)⟩
theorem dm_Sm {mk : Nat → Int32} {d t : Nat} (hd : d < sz) (ht : t < sz) (h1 : ¬ mk t = 0) (h2 : st d = 2) (h3 : ¬ edge (d * cap + t) = 0) : dm_S cap sz st edge mk (upd mk d 1) := by
  refine ⟨fun j hj z => ?_, fun P hP z j hj h => ?_⟩
  · by_cases e : j = d
    · rw [e, pk_us]
      decide
    · rw [pk_un e]
      exact z
  · by_cases e : j = d
    · rw [e]
      exact hP d t hd ht (z t ht h1) h2 h3
    · rw [pk_un e] at h
      exact z j hj h
theorem dm_y112 (hsz : sz ≤ 8) (hcap : cap ≤ 8) {d : Nat} (hd : d < sz) : ∀ (k t0 : Nat) (mk : Nat → Int32), t0 + k = sz →
    ∃ mk' : Nat → Int32, dm_S cap sz st edge mk mk' ∧ (∀ t, t0 ≤ t → t < sz → ¬ mk t = 0 → st d = 2 → ¬ edge (d * cap + t) = 0 → ¬ mk' d = 0) ∧
      ∀ (post : Int64 → SY → Prop) (J88 J100 : Int32 → (Nat → Int32) → (Nat → Int64) → (Nat → Int32) → (Nat → Int32) → (Nat → Int32) → Prop) (x4 : Int32),
        J100 (nI (d + 1)) st ex edge op mk' → wY_markException_112 post J88 J100 id x4 (nI d) (nI cap) (nI sz) (k + 1) (nI t0) st ex edge op mk := by
  intro k
  induction k with
  | zero =>
    intro t0 mk h
    have e : t0 = sz := by omega
    subst e
    exact ⟨mk, dm_Sr, fun t h1 h2 => absurd h1 (by omega), fun post J88 J100 x4 hJ => br_t (nI_le (Nat.le_refl _) (by omega)) (nm_r (nI_1 d) hJ)⟩
  | succ k ih =>
    intro t0 mk h
    have hlt : ¬ nI sz ≤ nI t0 := nI_ge (by omega) (by omega)
    have hid : vp_in (nI d) 8 := vp_in_nI (by omega) (by omega)
    have hit : vp_in (nI t0) 8 := vp_in_nI (by omega) (by omega)
    have ecd : (nI d).toNatClampNeg = d := nI_clamp (by omega)
    have ect : (nI t0).toNatClampNeg = t0 := nI_clamp (by omega)
    have hix : d * cap + t0 < 64 := dm_ix (by omega) hcap (by omega)
    have eix : nI d * nI cap + nI t0 = nI (d * cap + t0) := by rw [pk_mul, nI_add]
    have hie : vp_in (nI d * nI cap + nI t0) 64 := by rw [eix]; exact vp_in_nI hix (by omega)
    have ece : (nI d * nI cap + nI t0).toNatClampNeg = d * cap + t0 := by rw [eix]; exact nI_clamp (by omega)
    by_cases z2 : st d = 2
    · by_cases zm : mk t0 = 0
      · obtain ⟨mk', hS, h3, W⟩ := ih (t0 + 1) mk (by omega)
        refine ⟨mk', hS, fun t g1 g2 g3 => ?_, fun post J88 J100 x4 hJ => ?_⟩
        · refine h3 t ?_ g2 g3
          by_cases e : t = t0
          · rw [e] at g3
            exact absurd zm g3
          · omega
        · exact br_f hlt ⟨hid, br_t (by rw [ecd]; exact z2) ⟨hit, br_t (by rw [ect]; exact zm) (nm_r (nI_1 t0) (W post J88 J100 x4 hJ))⟩⟩
      · by_cases ze : edge (d * cap + t0) = 0
        · obtain ⟨mk', hS, h3, W⟩ := ih (t0 + 1) mk (by omega)
          refine ⟨mk', hS, fun t g1 g2 g3 g4 g5 => ?_, fun post J88 J100 x4 hJ => ?_⟩
          · refine h3 t ?_ g2 g3 g4 g5
            by_cases e : t = t0
            · rw [e] at g5
              exact absurd ze g5
            · omega
          · exact br_f hlt ⟨hid, br_t (by rw [ecd]; exact z2) ⟨hit, br_f (by rw [ect]; exact zm) ⟨hie, br_t (by rw [ece]; exact ze) (nm_r (nI_1 t0) (W post J88 J100 x4 hJ))⟩⟩⟩
        · obtain ⟨mk', hS, h3, W⟩ := ih (t0 + 1) (upd mk d 1) (by omega)
          refine ⟨mk', dm_Str (dm_Sm hd (by omega) zm z2 ze) hS, fun t g1 g2 g3 g4 g5 => hS.1 d hd (by rw [pk_us]; decide), fun post J88 J100 x4 hJ => ?_⟩
          exact br_f hlt ⟨hid, br_t (by rw [ecd]; exact z2) ⟨hit, br_f (by rw [ect]; exact zm) ⟨hie, br_f (by rw [ece]; exact ze) ⟨hid, nm_r (e' := upd mk d 1) (by rw [ecd, dm_c1]) (nm_r (nI_1 t0) (W post J88 J100 x4 hJ))⟩⟩⟩⟩
    · obtain ⟨mk', hS, h3, W⟩ := ih (t0 + 1) mk (by omega)
      refine ⟨mk', hS, fun t g1 g2 g3 g4 => absurd g4 z2, fun post J88 J100 x4 hJ => ?_⟩
      exact br_f hlt ⟨hid, br_f (by rw [ecd]; exact z2) (nm_r (nI_1 t0) (W post J88 J100 x4 hJ))⟩
theorem dm_y100 (hsz : sz ≤ 8) (hcap : cap ≤ 8) : ∀ (k d0 : Nat) (mk : Nat → Int32), d0 + k = sz →
    ∃ mk' : Nat → Int32, dm_S cap sz st edge mk mk' ∧ (∀ d t, d0 ≤ d → d < sz → t < sz → ¬ mk t = 0 → st d = 2 → ¬ edge (d * cap + t) = 0 → ¬ mk' d = 0) ∧
      ∀ (post : Int64 → SY → Prop) (J88 : Int32 → (Nat → Int32) → (Nat → Int64) → (Nat → Int32) → (Nat → Int32) → (Nat → Int32) → Prop) (x4 : Int32),
        J88 (x4 + 1) st ex edge op mk' → wY_markException_100 post J88 id x4 (nI cap) (nI sz) (k + 1) (nI d0) st ex edge op mk := by
  intro k
  induction k with
  | zero =>
    intro d0 mk h
    have e : d0 = sz := by omega
    subst e
    exact ⟨mk, dm_Sr, fun d t h1 h2 => absurd h1 (by omega), fun post J88 x4 hJ => br_t (nI_le (Nat.le_refl _) (by omega)) (nm_e hJ)⟩
  | succ k ih =>
    intro d0 mk h
    have hlt : ¬ nI sz ≤ nI d0 := nI_ge (by omega) (by omega)
    obtain ⟨mk1, hS1, h31, W1⟩ := dm_y112 (st := st) (edge := edge) (op := op) (ex := ex) (id := id) hsz hcap (d := d0) (by omega) sz 0 mk (by omega)
    obtain ⟨mk', hS, h3, W⟩ := ih (d0 + 1) mk1 (by omega)
    refine ⟨mk', dm_Str hS1 hS, fun d t g1 g2 g3 g4 g5 g6 => ?_, fun post J88 x4 hJ => ?_⟩
    · by_cases e : d = d0
      · subst e
        exact hS.1 d g2 (h31 t (by omega) g3 g4 g5 g6)
      · exact h3 d t (by omega) g2 g3 (hS1.1 t g3 g4) g5 g6
    · exact br_f hlt ⟨sz + 1, W1 post J88 _ x4 (W post J88 x4 hJ)⟩
theorem dm_y88 (hsz : sz ≤ 8) (hcap : cap ≤ 8) : ∀ (k r : Nat) (mk : Nat → Int32), r + k = sz → (dm_CY cap sz st edge (fun j => ¬ mk j = 0) ∨ r ≤ dm_cn sz mk) →
    ∃ mk' : Nat → Int32, dm_S cap sz st edge mk mk' ∧ dm_CY cap sz st edge (fun j => ¬ mk' j = 0) ∧
      ∀ (post : Int64 → SY → Prop), (∃ n192 : Nat, wY_markException_192 post id (nI cap) (nI sz) n192 0 0 st ex edge op mk') → wY_markException_88 post id (nI cap) (nI sz) (k + 1) (nI r) st ex edge op mk := by
  intro k
  induction k with
  | zero =>
    intro r mk h hc
    have e : r = sz := by omega
    subst e
    refine ⟨mk, dm_Sr, ?_, fun post hJ => br_t (nI_le (Nat.le_refl _) (by omega)) hJ⟩
    rcases hc with hc | hc
    · exact hc
    · intro d t hd ht _ _ _ z
      have h1 := dm_smF r (fun j hj => by (try dsimp only); split <;> omega) hc d hd
      (try dsimp only at h1)
      rw [if_pos z] at h1
      exact absurd h1 (by decide)
  | succ k ih =>
    intro r mk h hc
    have hlt : ¬ nI sz ≤ nI r := nI_ge (by omega) (by omega)
    obtain ⟨mk1, hS1, h31, W1⟩ := dm_y100 (st := st) (edge := edge) (op := op) (ex := ex) (id := id) hsz hcap sz 0 mk (by omega)
    have hc1 : dm_CY cap sz st edge (fun j => ¬ mk1 j = 0) ∨ r + 1 ≤ dm_cn sz mk1 := by
      by_cases hcl : dm_CY cap sz st edge (fun j => ¬ mk j = 0)
      · refine Or.inl fun d t hd ht z h2 he => ?_
        exact hS1.1 d hd (hcl d t hd ht (hS1.2 _ hcl (fun j _ g => g) t ht z) h2 he)
      · rcases hc with hc | hc
        · exact absurd hc hcl
        · refine Or.inr ?_
          have hex : ∃ d, d < sz ∧ mk d = 0 ∧ ¬ mk1 d = 0 := by
            apply Classical.byContradiction
            intro hno
            apply hcl
            intro d t hd ht z h2 he zd
            exact hno ⟨d, hd, zd, h31 d t (Nat.zero_le _) hd ht z h2 he⟩
          obtain ⟨d, hd, z0, z1⟩ := hex
          have hl := (dm_smLt (f := fun j => if mk j = 0 then 0 else 1) (g := fun j => if mk1 j = 0 then 0 else 1) (k := d) sz (fun j hj => by
            (try dsimp only)
            by_cases e : mk j = 0
            · rw [if_pos e]
              omega
            · rw [if_neg e, if_neg (hS1.1 j hj e)]
              omega)).2 hd (by
            (try dsimp only)
            rw [if_pos z0, if_neg z1]
            omega)
          have hl' : dm_cn sz mk < dm_cn sz mk1 := hl
          omega
    obtain ⟨mk', hS, hcy, W⟩ := ih (r + 1) mk1 (by omega) hc1
    refine ⟨mk', dm_Str hS1 hS, hcy, fun post hJ => ?_⟩
    refine br_f hlt ⟨sz + 1, W1 post _ (nI r) ?_⟩
    rw [nI_1]
    exact W post hJ
theorem dm_y55 (hsz : sz ≤ 8) (hs : s < sz) : ∀ (k i : Nat) (mk : Nat → Int32), i + k = sz → (∀ j, j < i → mk j = 0) →
    ∃ mk' : Nat → Int32, (∀ j, j < sz → mk' j = 0) ∧
      ∀ (post : Int64 → SY → Prop), (∃ n88 : Nat, wY_markException_88 post id (nI cap) (nI sz) n88 (nI 1) st ex edge op (upd mk' s 1)) → wY_markException_55 post (nI s) id (nI cap) (nI sz) (k + 1) (nI i) st ex edge op mk := by
  intro k
  induction k with
  | zero =>
    intro i mk h h0
    have e : i = sz := by omega
    subst e
    exact ⟨mk, h0, fun post hJ => br_t (nI_le (Nat.le_refl _) (by omega)) ⟨vp_in_nI (by omega) (by omega), nm_r (e' := upd mk s 1) (by rw [nI_clamp (by omega), dm_c1]) hJ⟩⟩
  | succ k ih =>
    intro i mk h h0
    have hlt : ¬ nI sz ≤ nI i := nI_ge (by omega) (by omega)
    obtain ⟨mk', h1, W⟩ := ih (i + 1) (upd mk i 0) (by omega) (fun j hj => by
      by_cases e : j = i
      · rw [e, pk_us]
      · rw [pk_un e]
        exact h0 j (by omega))
    exact ⟨mk', h1, fun post hJ => br_f hlt ⟨vp_in_nI (by omega) (by omega), nm_r (e' := upd mk i 0) (by rw [nI_clamp (by omega), dm_c0]) (nm_r (nI_1 i) (W post hJ))⟩⟩
def dm_lt (T : Nat → Bool) (i : Nat) : Nat → Bool := fun j => if j < i then T j else false
theorem dm_lt0 (T : Nat → Bool) : dm_lt T 0 = fun _ => false := by
  funext j
  exact if_neg (Nat.not_lt_zero j)
theorem dm_lte {T : Nat → Bool} {n : Nat} (h : ∀ j, T j = true → j < n) : dm_lt T n = T := by
  funext j
  by_cases e : j < n
  · exact if_pos e
  · show (if j < n then T j else false) = T j
    rw [if_neg e]
    cases e2 : T j with
    | false => rfl
    | true => exact absurd (h j e2) e
theorem dm_ltt {T : Nat → Bool} {i : Nat} (h : T i = true) : dm_ad (dm_lt T i) i = dm_lt T (i + 1) := by
  funext j
  by_cases e : j = i
  · subst e
    rw [dm_ads]
    show true = (if j < j + 1 then T j else false)
    rw [if_pos (by omega), h]
  · rw [dm_adn e]
    show (if j < i then T j else false) = (if j < i + 1 then T j else false)
    by_cases e2 : j < i
    · rw [if_pos e2, if_pos (by omega)]
    · rw [if_neg e2, if_neg (by omega)]
theorem dm_ltf {T : Nat → Bool} {i : Nat} (h : T i = false) : dm_lt T i = dm_lt T (i + 1) := by
  funext j
  show (if j < i then T j else false) = (if j < i + 1 then T j else false)
  by_cases e2 : j < i
  · rw [if_pos e2, if_pos (by omega)]
  · rw [if_neg e2]
    by_cases e : j < i + 1
    · have e3 : j = i := by omega
      rw [if_pos e, e3, h]
    · rw [if_neg e]
theorem dm_y192 (hsz : sz ≤ 8) {mk : Nat → Int32} {T : Nat → Bool} (hT : ∀ j, T j = true → j < sz) (hm : ∀ j, j < sz → (T j = true ↔ ¬ mk j = 0)) : ∀ (k i : Nat), i + k = sz →
    ∀ (post : Int64 → SY → Prop), post (dm_bs T sz) (nI cap, nI sz, dm_m3 T st, dm_mL T id ex, edge, op, mk) →
      wY_markException_192 post id (nI cap) (nI sz) (k + 1) (dm_bs T i) (nI i) (dm_m3 (dm_lt T i) st) (dm_mL (dm_lt T i) id ex) edge op mk := by
  intro k
  induction k with
  | zero =>
    intro i h post hp
    have e : i = sz := by omega
    subst e
    rw [dm_lte hT]
    exact br_t (nI_le (Nat.le_refl _) (by omega)) hp
  | succ k ih =>
    intro i h post hp
    have hlt : ¬ nI sz ≤ nI i := nI_ge (by omega) (by omega)
    have hin : vp_in (nI i) 8 := vp_in_nI (by omega) (by omega)
    have eci : (nI i).toNatClampNeg = i := nI_clamp (by omega)
    have W := ih (i + 1) (by omega) post hp
    cases e : T i with
    | false =>
      have hz : mk i = 0 := by
        apply Classical.byContradiction
        intro z
        rw [(hm i (by omega)).mpr z] at e
        exact absurd e (by decide)
      have eb : dm_bs T (i + 1) = dm_bs T i := by
        show dm_bs T i ||| (if T i = true then dm_bit i else 0) = dm_bs T i
        rw [e, if_neg (by decide), Int64.or_zero]
      rw [eb, ← dm_ltf e] at W
      exact br_f hlt ⟨hin, br_t (by rw [eci]; exact hz) (nm_r (nI_1 i) W)⟩
    | true =>
      have hz : ¬ mk i = 0 := (hm i (by omega)).mp e
      refine br_f hlt ⟨hin, br_f (by rw [eci]; exact hz) ⟨hin, ?_⟩⟩
      refine nm_r (e' := dm_m3 (dm_lt T (i + 1)) st) (by rw [eci, dm_b3, dm_m3a, dm_ltt e]) ⟨hin, ?_⟩
      refine nm_r (e' := dm_mL (dm_lt T (i + 1)) id ex) (by rw [eci, dm_mLa, dm_ltt e]) ?_
      refine nm_r (e' := dm_bs T (i + 1)) (by
        show _ = dm_bs T i ||| (if T i = true then dm_bit i else 0)
        rw [if_pos e]
        rfl) ?_
      exact nm_r (nI_1 i) W
theorem dm_ymark (hsz : sz ≤ 8) (hcap : cap ≤ 8) (mk : Nat → Int32) (hs : s < sz) (h2 : st s = 2) (hid : ¬ id = 0) :
    ∃ (T : Nat → Bool) (mk' : Nat → Int32), T s = true ∧ (∀ j, T j = true → j < sz) ∧ (∀ P : Nat → Prop, dm_CY cap sz st edge P → P s → ∀ j, T j = true → P j) ∧ dm_CY cap sz st edge (fun j => T j = true) ∧
      ∀ post : Int64 → SY → Prop, post (dm_bs T sz) (nI cap, nI sz, dm_m3 T st, dm_mL T id ex, edge, op, mk') →
        wpY_markException post (nI cap, nI sz, st, ex, edge, op, mk) (nI s) id := by
  obtain ⟨mk0, h0, W0⟩ := dm_y55 (cap := cap) (st := st) (edge := edge) (op := op) (ex := ex) (id := id) hsz hs sz 0 mk (by omega) (fun j hj => absurd hj (Nat.not_lt_zero j))
  have hcn : 1 ≤ dm_cn sz (upd mk0 s 1) := by
    have h := dm_smP (f := fun j => if upd mk0 s 1 j = 0 then 0 else 1) (k := s) sz hs
    (try dsimp only at h)
    rw [pk_us, if_neg (by decide)] at h
    exact h
  obtain ⟨mk', hS, hcy, W1⟩ := dm_y88 (st := st) (edge := edge) (op := op) (ex := ex) (id := id) hsz hcap (sz - 1) 1 (upd mk0 s 1) (by omega) (Or.inr hcn)
  have hsm : ¬ mk' s = 0 := hS.1 s hs (by rw [pk_us]; decide)
  have hT : ∀ j, (decide (j < sz) && decide (¬ mk' j = 0)) = true ↔ j < sz ∧ ¬ mk' j = 0 := fun j => by
    rw [Bool.and_eq_true, decide_eq_true_iff, decide_eq_true_iff]
  have hin : vp_in (nI s) 8 := vp_in_nI (by omega) (by omega)
  have ecs : (nI s).toNatClampNeg = s := nI_clamp (by omega)
  refine ⟨fun j => decide (j < sz) && decide (¬ mk' j = 0), mk', (hT s).mpr ⟨hs, hsm⟩, fun j hj => ((hT j).mp hj).1, fun P hP hPs j hj => ?_, fun d t hd ht g1 g2 g3 => ?_, fun post hp => ?_⟩
  · refine hS.2 P hP (fun j hj z => ?_) j ((hT j).mp hj).1 ((hT j).mp hj).2
    by_cases e : j = s
    · rw [e]
      exact hPs
    · rw [pk_un e] at z
      exact absurd (h0 j hj) z
  · exact (hT d).mpr ⟨hd, hcy d t hd ht ((hT t).mp g1).2 g2 g3⟩
  · have W2 := dm_y192 (cap := cap) (st := st) (edge := edge) (op := op) (ex := ex) (id := id) hsz (mk := mk') (T := fun j => decide (j < sz) && decide (¬ mk' j = 0)) (fun j hj => ((hT j).mp hj).1) (fun j hj => ⟨fun z => ((hT j).mp z).2, fun z => (hT j).mpr ⟨hj, z⟩⟩) sz 0 (by omega) post hp
    rw [dm_lt0, dm_m3e, dm_mLe] at W2
    have hps : ¬ nI s < 0 := nI_pos (by omega)
    have hls : nI s < nI sz := nI_lt hs (by omega)
    exact br_f hps (br_t hls (br_f hid ⟨hin, br_f (by rw [ecs, h2]; decide) ⟨hin, br_f (by rw [ecs, h2]; decide) ⟨sz + 1, W0 post ⟨sz - 1 + 1, W1 post ⟨sz + 1, W2⟩⟩⟩⟩⟩))
end
end
section
/-! the relation, and what each call does to it -/
/-- lowDep is the least target noted since the last sweep, -1 if there is none -/
def dm_Lw (low : Int32) (sz : Nat) (op : Nat → Int32) : Prop :=
  (∀ t, sz ≤ t → op t = 0) ∧ ((low = -1 ∧ ∀ t, op t = 0) ∨ ∃ l, l < sz ∧ low = nI l ∧ ¬ op l = 0 ∧ ∀ t, t < l → op t = 0)
def dm_F (cap sz us : Nat) (low : Int32) (st : Nat → Int32) (ex : Nat → Int64) (hd nx vl edge op : Nat → Int32) (own dv : Nat → Nat) : Prop :=
  (1 ≤ cap ∧ cap ≤ 8 ∧ sz ≤ cap ∧ us ≤ 2 * cap) ∧ (∀ j, j < sz → st j = 1 ∨ st j = 2 ∨ st j = 3) ∧ (∀ j, sz ≤ j → ex j = 0) ∧ (∀ j, j < sz → st j = 3 → ¬ ex j = 0) ∧
  (∀ c, c < us → own c < sz ∧ dv c < sz ∧ vl c = nI (dv c) ∧ nx c = dm_pr own (own c) c) ∧ (∀ t, t < sz → st t = 2 → hd t = dm_pr own t us) ∧
  (edge = fun k => nI (dm_cnt (fun c => dv c * cap + own c) k us)) ∧ dm_Lw low sz op
/-- the relation at the head of a turn: own c, dv c are the target and the dependent of cell c -/
def i_Rel (k : Nat) (u : SX) (v : SY) : Prop :=
  ∃ (cap sz us : Nat) (low : Int32) (st : Nat → Int32) (ex : Nat → Int64) (hd nx vl sk edge op mk : Nat → Int32) (own dv : Nat → Nat),
    u = (nI cap, nI us, low, nI sz, st, ex, hd, nx, vl, sk) ∧ v = (nI cap, nI sz, st, ex, edge, op, mk) ∧ dm_F cap sz us low st ex hd nx vl edge op own dv
theorem dm_el {k : Nat} {P : SX → SY → Prop} (h : ∀ (cap sz us : Nat) (low : Int32) (st : Nat → Int32) (ex : Nat → Int64) (hd nx vl sk edge op mk : Nat → Int32) (own dv : Nat → Nat), dm_F cap sz us low st ex hd nx vl edge op own dv → P (nI cap, nI us, low, nI sz, st, ex, hd, nx, vl, sk) (nI cap, nI sz, st, ex, edge, op, mk)) {u : SX} {v : SY} (I : i_Rel k u v) : P u v := by
  obtain ⟨cap, sz, us, low, st, ex, hd, nx, vl, sk, edge, op, mk, own, dv, rfl, rfl, F⟩ := I
  exact h cap sz us low st ex hd nx vl sk edge op mk own dv F
theorem dm_in {k cap sz us : Nat} {low : Int32} {st : Nat → Int32} {ex : Nat → Int64} {hd nx vl edge op : Nat → Int32} {own dv : Nat → Nat} {sk mk : Nat → Int32} (F : dm_F cap sz us low st ex hd nx vl edge op own dv) : i_Rel k (nI cap, nI us, low, nI sz, st, ex, hd, nx, vl, sk) (nI cap, nI sz, st, ex, edge, op, mk) :=
  ⟨cap, sz, us, low, st, ex, hd, nx, vl, sk, edge, op, mk, own, dv, rfl, rfl, F⟩
theorem dm_uq {a b c d n : Nat} (h : a * n + b = c * n + d) (hb : b < n) (hd : d < n) : a = c ∧ b = d := by
  rcases Nat.lt_trichotomy a c with e | e | e
  · have h1 : (a + 1) * n ≤ c * n := Nat.mul_le_mul_right n e
    rw [Nat.add_mul, Nat.one_mul] at h1
    omega
  · subst e
    exact ⟨rfl, by omega⟩
  · have h1 : (c + 1) * n ≤ a * n := Nat.mul_le_mul_right n e
    rw [Nat.add_mul, Nat.one_mul] at h1
    omega
section
variable {cap sz us : Nat} {low : Int32} {st : Nat → Int32} {ex : Nat → Int64} {hd nx vl edge op : Nat → Int32} {own dv : Nat → Nat}
theorem dm_FB (F : dm_F cap sz us low st ex hd nx vl edge op own dv) : dm_B sz us own dv nx vl := by
  obtain ⟨⟨f1, f2, f3, f4⟩, _, _, _, f5, _⟩ := F
  exact ⟨by omega, by omega, f5⟩
theorem dm_FCl (F : dm_F cap sz us low st ex hd nx vl edge op own dv) {P : Nat → Prop} (h : dm_CY cap sz st edge P) : dm_Cl us own dv st P := by
  obtain ⟨⟨f1, f2, f3, f4⟩, _, _, _, f5, _, f7, _⟩ := F
  intro c hc hp h2
  obtain ⟨z1, z2, _, _⟩ := f5 c hc
  refine h (dv c) (own c) z2 z1 hp h2 ?_
  have h3 : dm_cnt (fun c => dv c * cap + own c) (dv c * cap + own c) us ≠ 0 := dm_cntP us hc rfl
  have h4 : dm_cnt (fun c => dv c * cap + own c) (dv c * cap + own c) us ≤ us := dm_cntB us
  rw [f7]
  exact nI_ne0 (by omega) (by omega)
theorem dm_FCY (F : dm_F cap sz us low st ex hd nx vl edge op own dv) {P : Nat → Prop} (h : dm_Cl us own dv st P) : dm_CY cap sz st edge P := by
  obtain ⟨⟨f1, f2, f3, f4⟩, _, _, _, f5, _, f7, _⟩ := F
  intro d t hd ht hp h2 he
  rw [f7] at he
  obtain ⟨c, hc, e⟩ := dm_cntN (f := fun c => dv c * cap + own c) (k := d * cap + t) us (fun z => he (by (try dsimp only); rw [z, nI_0]))
  obtain ⟨z1, z2, _, _⟩ := f5 c hc
  obtain ⟨e1, e2⟩ := dm_uq e (by omega) (by omega)
  rw [← e1]
  exact h c hc (by rw [e2]; exact hp) (by rw [e1]; exact h2)
/-- the two closures are one -/
theorem dm_taint (F : dm_F cap sz us low st ex hd nx vl edge op own dv) {s : Nat} {id : Int64} (hs : s < sz) (h2 : st s = 2) (hid : ¬ id = 0) (sk mk : Nat → Int32) :
    ∃ (r : Int64) (st' : Nat → Int32) (ex' : Nat → Int64) (hd' sk' mk' : Nat → Int32), dm_F cap sz us low st' ex' hd' nx vl edge op own dv ∧
      (∀ post : Int64 → SX → Prop, post r (nI cap, nI us, low, nI sz, st', ex', hd', nx, vl, sk') → wpX_taint post (nI cap, nI us, low, nI sz, st, ex, hd, nx, vl, sk) (nI s) id) ∧
      (∀ post : Int64 → SY → Prop, post r (nI cap, nI sz, st', ex', edge, op, mk') → wpY_markException post (nI cap, nI sz, st, ex, edge, op, mk) (nI s) id) := by
  have F0 := F
  obtain ⟨⟨f1, f2, f3, f4⟩, g2, g3, g4, g5, g6, g7, g8⟩ := F0
  obtain ⟨T, hd', sk', hO, hh, WX⟩ := dm_xtaint (cap := cap) (ex := ex) (low := low) (id := id) (dm_FB F) sk hs h2 g6
  obtain ⟨T', mk', y1, y2, y3, y4, WY⟩ := dm_ymark (cap := cap) (edge := edge) (op := op) (ex := ex) (by omega) f2 mk hs h2 hid
  have hO' : dm_O s sz us own dv st T' := by
    refine ⟨y1, fun j hj => ⟨y2 j hj, ?_⟩, fun P hP => y3 P (dm_FCY F hP), dm_FCl F y4⟩
    exact y3 (fun j => st j = 2) (fun d t _ _ _ z _ => z) h2 j hj
  have eT : T' = T := dm_Ou hO' hO
  subst eT
  refine ⟨dm_bs T' sz, dm_m3 T' st, dm_mL T' id ex, hd', sk', mk', ⟨⟨f1, f2, f3, f4⟩, fun j hj => ?_, fun j hj => ?_, fun j hj h3 => ?_, g5, fun t ht h3 => ?_, g7, g8⟩, WX, WY⟩
  · cases e : T' j with
    | true => exact Or.inr (Or.inr (dm_m3t e))
    | false => rw [dm_m3f e]; exact g2 j hj
  · cases e : T' j with
    | true => exact absurd (y2 j e) (by omega)
    | false => rw [dm_mLf e]; exact g3 j hj
  · cases e : T' j with
    | true => rw [dm_mLt e]; exact hid
    | false =>
      rw [dm_m3f e] at h3
      rw [dm_mLf e]
      exact g4 j hj h3
  · cases e : T' t with
    | true => rw [dm_m3t e] at h3; exact absurd h3 (by decide)
    | false =>
      rw [dm_m3f e] at h3
      exact hh t ht h3 e
theorem dm_Fasg (F : dm_F cap sz us low st ex hd nx vl edge op own dv) (h : sz < cap) : dm_F cap (sz + 1) us low (upd st sz 2) ex (upd hd sz (-1)) nx vl edge op own dv := by
  obtain ⟨⟨f1, f2, f3, f4⟩, g2, g3, g4, g5, g6, g7, g8, g9⟩ := F
  refine ⟨⟨f1, f2, h, f4⟩, fun j hj => ?_, fun j hj => g3 j (by omega), fun j hj h3 => ?_, fun c hc => ?_, fun t ht h3 => ?_, g7, fun t ht => g8 t (by omega), ?_⟩
  · by_cases e : j = sz
    · rw [e, pk_us]
      exact Or.inr (Or.inl rfl)
    · rw [pk_un e]
      exact g2 j (by omega)
  · by_cases e : j = sz
    · rw [e, pk_us] at h3
      exact absurd h3 (by decide)
    · rw [pk_un e] at h3
      exact g4 j (by omega) h3
  · obtain ⟨a, b, c1, d⟩ := g5 c hc
    exact ⟨by omega, by omega, c1, d⟩
  · by_cases e : t = sz
    · rw [e, pk_us]
      refine (dm_pr0 fun c hc => ?_).symm
      have h5 := (g5 c hc).1
      omega
    · rw [pk_un e]
      rw [pk_un e] at h3
      exact g6 t (by omega) h3
  · rcases g9 with h9 | ⟨l, h1, h9⟩
    · exact Or.inl h9
    · exact Or.inr ⟨l, by omega, h9⟩
theorem dm_Fex (F : dm_F cap sz us low st ex hd nx vl edge op own dv) : vp_updL ex sz 0 = ex := by
  funext j
  by_cases e : j = sz
  · rw [e, pk_uLs, F.2.2.1 sz (Nat.le_refl _)]
  · rw [pk_uLn e]
/-- a new cell -/
theorem dm_Fdep (F : dm_F cap sz us low st ex hd nx vl edge op own dv) {d t : Nat} {low' : Int32} {op' : Nat → Int32} (hd' : d < sz) (ht : t < sz) (h2 : st t = 2) (hu : us < 2 * cap) (hL : dm_Lw low' sz op') :
    dm_F cap sz (us + 1) low' st ex (upd hd t (nI us)) (upd nx us (hd t)) (upd vl us (nI d)) (upd edge (d * cap + t) (edge (d * cap + t) + 1)) op' (dm_up own us t) (dm_up dv us d) := by
  obtain ⟨⟨f1, f2, f3, f4⟩, g2, g3, g4, g5, g6, g7, _⟩ := F
  have ho : ∀ n, n ≤ us → ∀ c, c < n → own c = dm_up own us t c := fun n hn c hc => (dm_upn (by omega)).symm
  refine ⟨⟨f1, f2, f3, hu⟩, g2, g3, g4, fun c hc => ?_, fun t' h1 h3 => ?_, ?_, hL⟩
  · by_cases e : c = us
    · rw [e, dm_ups, dm_ups, pk_us, pk_us, ← dm_prC us (ho us (Nat.le_refl _))]
      exact ⟨ht, hd', rfl, g6 t ht h2⟩
    · rw [dm_upn e, dm_upn e, pk_un e, pk_un e, ← dm_prC c (ho c (by omega))]
      exact g5 c (by omega)
  · show _ = (if dm_up own us t us = t' then nI us else dm_pr (dm_up own us t) t' us)
    rw [dm_ups, ← dm_prC us (ho us (Nat.le_refl _))]
    by_cases e : t' = t
    · rw [e, pk_us, if_pos rfl]
    · rw [pk_un e, if_neg (Ne.symm e)]
      exact g6 t' h1 h3
  · funext j
    have e0 : dm_cnt (fun c => dm_up dv us d c * cap + dm_up own us t c) j (us + 1) = dm_cnt (fun c => dv c * cap + own c) j us + (if d * cap + t = j then 1 else 0) := by
      show dm_cnt (fun c => dm_up dv us d c * cap + dm_up own us t c) j us + (if dm_up dv us d us * cap + dm_up own us t us = j then 1 else 0) = _
      rw [dm_ups, dm_ups, dm_cntC (f := fun c => dm_up dv us d c * cap + dm_up own us t c) (g := fun c => dv c * cap + own c) us (fun c hc => by
        show dm_up dv us d c * cap + dm_up own us t c = dv c * cap + own c
        rw [dm_upn (by omega), dm_upn (by omega)])]
    show upd edge (d * cap + t) (edge (d * cap + t) + 1) j = nI (dm_cnt (fun c => dm_up dv us d c * cap + dm_up own us t c) j (us + 1))
    rw [e0]
    by_cases e : j = d * cap + t
    · rw [e, pk_us, if_pos rfl, g7, ← nI_1]
    · rw [pk_un e, if_neg (Ne.symm e), g7, Nat.add_zero]
theorem dm_Ffin (F : dm_F cap sz us low st ex hd nx vl edge op own dv) {st' hd' op' : Nat → Int32} {low' : Int32} (h1 : ∀ j, st' j = st j ∨ (st j = 2 ∧ st' j = 1)) (h2 : ∀ j, st' j = 2 → hd' j = hd j) (hL : dm_Lw low' sz op') :
    dm_F cap sz us low' st' ex hd' nx vl edge op' own dv := by
  obtain ⟨f1, g2, g3, g4, g5, g6, g7, _⟩ := F
  refine ⟨f1, fun j hj => ?_, g3, fun j hj h3 => ?_, g5, fun t ht h3 => ?_, g7, hL⟩
  · rcases h1 j with e | ⟨_, e⟩
    · rw [e]
      exact g2 j hj
    · exact Or.inl e
  · rcases h1 j with e | ⟨_, e⟩
    · rw [e] at h3
      exact g4 j hj h3
    · rw [e] at h3
      exact absurd h3 (by decide)
  · rw [h2 t h3]
    rcases h1 t with e | ⟨_, e⟩
    · rw [e] at h3
      exact g6 t ht h3
    · rw [e] at h3
      exact absurd h3 (by decide)
end
/-- the watermark with a new target -/
theorem dm_Lwd {low : Int32} {sz t : Nat} {op : Nat → Int32} (h : dm_Lw low sz op) (hsz : sz ≤ 8) (ht : t < sz) : ∃ low' : Int32, dm_Lw low' sz (upd op t 1) ∧
    ∀ A : Int32 → Prop, A low' → (low < 0 → A (nI t)) ∧ (¬ low < 0 → ((low ≤ nI t → A low) ∧ (¬ low ≤ nI t → A (nI t)))) := by
  obtain ⟨h1, h2⟩ := h
  have h3 : ∀ t', sz ≤ t' → upd op t 1 t' = 0 := fun t' g => by
    rw [pk_un (by omega)]
    exact h1 t' g
  have h4 : ¬ upd op t 1 t = 0 := by
    rw [pk_us]
    decide
  rcases h2 with ⟨e, hz⟩ | ⟨l, hl, e, hn, hz⟩
  · exact ⟨nI t, ⟨h3, Or.inr ⟨t, ht, rfl, h4, fun t' g => by rw [pk_un (by omega)]; exact hz t'⟩⟩, fun A hA => br_t (by rw [e]; decide) hA⟩
  · have hp : ¬ low < 0 := by
      rw [e]
      exact nI_pos (by omega)
    by_cases g : l ≤ t
    · refine ⟨nI l, ⟨h3, Or.inr ⟨l, hl, rfl, ?_, fun t' g' => by rw [pk_un (by omega)]; exact hz t' g'⟩⟩, fun A hA => br_f hp (br_t (by rw [e]; exact nI_le g (by omega)) (by rw [e]; exact hA))⟩
      by_cases e2 : l = t
      · rw [e2]
        exact h4
      · rw [pk_un e2]
        exact hn
    · exact ⟨nI t, ⟨h3, Or.inr ⟨t, ht, rfl, h4, fun t' g' => by rw [pk_un (by omega)]; exact hz t' (by omega)⟩⟩, fun A hA => br_f hp (br_f (by rw [e]; exact nI_ge (by omega) (by omega)) hA)⟩
end
section
/-! the small loops -/
theorem dm_xi {post : SX → Prop} {x2 : Int32} {st nx vl sk : Nat → Int32} {ex : Nat → Int64} (h : ∀ hd : Nat → Int32, post (x2, 0, -1, 0, st, ex, hd, nx, vl, sk)) : ∀ (k i : Nat) (hd : Nat → Int32), i + k = 8 → wX_init_92 post x2 0 (-1) 0 (k + 1) (nI i) st ex hd nx vl sk := by
  intro k
  induction k with
  | zero =>
    intro i hd hi
    exact br_t (nI_le (a := 8) (by omega) (by omega)) (h hd)
  | succ k ih =>
    intro i hd hi
    exact br_f (nI_ge (b := 8) (by omega) (by decide)) ⟨vp_in_nI (by omega) (by omega), nm_e (nm_r (nI_1 i) (ih (i + 1) _ (by omega)))⟩
/-- the sum of the noted pairs -/
theorem dm_y110 {post : Int32 → SY → Prop} {p0 p1 : Int32} {cap : Nat} {size : Int32} {st op mk : Nat → Int32} {ex : Nat → Int64} {eg : Nat → Nat} (hcap : cap ≤ 8)
    (h : wY_markDependency_110 post p0 p1 (nI cap) size st ex (fun k => nI (eg k)) op mk 1 (nI (dm_sm eg (cap * cap))) (nI (cap * cap))) :
    ∀ (k i : Nat), i + k = cap * cap → wY_markDependency_110 post p0 p1 (nI cap) size st ex (fun k => nI (eg k)) op mk (k + 1) (nI (dm_sm eg i)) (nI i) := by
  have hcc : cap * cap ≤ 8 * 8 := Nat.mul_le_mul hcap hcap
  intro k
  induction k with
  | zero =>
    intro i hi
    have e : i = cap * cap := by omega
    rw [e]
    exact h
  | succ k ih =>
    intro i hi
    have h1 : ¬ nI cap * nI cap ≤ nI i := by
      rw [pk_mul]
      exact nI_ge (by omega) (by omega)
    refine br_f h1 ⟨vp_in_nI (by omega) (by omega), ?_⟩
    refine nm_r (e' := nI (dm_sm eg (i + 1))) ?_ (nm_r (nI_1 i) (ih (i + 1) (by omega)))
    (try dsimp only)
    rw [nI_clamp (by omega), nI_add]
    rfl
/-- settling the handles from i to e, on both sides -/
theorem dm_fin {e : Nat} (he : e ≤ 8) : ∀ (k i : Nat) (x : Int32) (st hd : Nat → Int32), i + k = e →
    ∃ (r : Int32) (st' hd' : Nat → Int32), (∀ j, st' j = st j ∨ (st j = 2 ∧ st' j = 1)) ∧ (∀ j, st' j = 2 → hd' j = hd j) ∧
      (∀ (post : Int32 → SX → Prop) (cap us low size : Int32) (ex : Nat → Int64) (nx vl sk : Nat → Int32), post r (cap, us, low, size, st', ex, hd', nx, vl, sk) → wX_finish_58 post (nI e) cap us low size (k + 1) x (nI i) st ex hd nx vl sk) ∧
      (∀ (post : Int32 → SY → Prop) (cap size : Int32) (ex : Nat → Int64) (edge op mk : Nat → Int32), post r (cap, size, st', ex, edge, op, mk) → wY_finish_98 post (nI e) cap size (k + 1) x (nI i) st ex edge op mk) := by
  intro k
  induction k with
  | zero =>
    intro i x st hd hi
    have h : nI e ≤ nI i := nI_le (by omega) (by omega)
    exact ⟨x, st, hd, fun j => Or.inl rfl, fun j _ => rfl, fun post cap us low size ex nx vl sk hp => br_t h hp, fun post cap size ex edge op mk hp => br_t h hp⟩
  | succ k ih =>
    intro i x st hd hi
    have h : ¬ nI e ≤ nI i := nI_ge (by omega) (by omega)
    have hin : vp_in (nI i) 8 := vp_in_nI (by omega) (by omega)
    have eci : (nI i).toNatClampNeg = i := nI_clamp (by omega)
    by_cases z : st i = 2
    · obtain ⟨r, st', hd', h1, h2, WX, WY⟩ := ih (i + 1) (x + 1) (upd st i 1) (upd hd i (-1)) (by omega)
      have z' : st (nI i).toNatClampNeg = 2 := by
        rw [eci]
        exact z
      have e1 : upd st (nI i).toNatClampNeg (vp_nar .byte 1) = upd st i 1 := by rw [eci, dm_b1]
      have e2 : upd hd (nI i).toNatClampNeg (vp_nar .short (-1)) = upd hd i (-1) := by rw [eci, dm_sm1]
      refine ⟨r, st', hd', fun j => ?_, fun j hj => ?_, fun post cap us low size ex nx vl sk hp => ?_, fun post cap size ex edge op mk hp => ?_⟩
      · by_cases ej : j = i
        · subst ej
          rcases h1 j with g | ⟨g, _⟩
          · rw [pk_us] at g
            exact Or.inr ⟨z, g⟩
          · rw [pk_us] at g
            exact absurd g (by decide)
        · have g := h1 j
          rw [pk_un ej] at g
          exact g
      · have g := h2 j hj
        by_cases ej : j = i
        · subst ej
          rcases h1 j with g1 | ⟨_, g1⟩
          · rw [pk_us, hj] at g1
            exact absurd g1 (by decide)
          · rw [hj] at g1
            exact absurd g1 (by decide)
        · rw [pk_un ej] at g
          exact g
      · exact br_f h ⟨hin, br_t z' ⟨hin, nm_r e1 ⟨hin, nm_r e2 (nm_e (nm_r (nI_1 i) (WX post cap us low size ex nx vl sk hp)))⟩⟩⟩
      · exact br_f h ⟨hin, br_t z' ⟨hin, nm_r e1 (nm_e (nm_r (nI_1 i) (WY post cap size ex edge op mk hp)))⟩⟩
    · obtain ⟨r, st', hd', h1, h2, WX, WY⟩ := ih (i + 1) x st hd (by omega)
      have z' : ¬ st (nI i).toNatClampNeg = 2 := by
        rw [eci]
        exact z
      exact ⟨r, st', hd', h1, h2, fun post cap us low size ex nx vl sk hp => br_f h ⟨hin, br_f z' (nm_r (nI_1 i) (WX post cap us low size ex nx vl sk hp))⟩, fun post cap size ex edge op mk hp => br_f h ⟨hin, br_f z' (nm_r (nI_1 i) (WY post cap size ex edge op mk hp))⟩⟩
/-- the reference's clearing of its flags -/
theorem dm_y69 {sz : Nat} {cap : Int32} {h : Int32} {st edge mk : Nat → Int32} {ex : Nat → Int64} (hsz : sz ≤ 8) : ∀ (k i : Nat) (op : Nat → Int32), i + k = sz →
    ∃ op' : Nat → Int32, (∀ t, i ≤ t → t < sz → op' t = 0) ∧ (∀ t, op t = 0 → op' t = 0) ∧
      ∀ post : Int32 → SY → Prop, (∃ n98 : Nat, wY_finish_98 post (nI sz) cap (nI sz) n98 0 h st ex edge op' mk) → wY_finish_69 post h (nI sz) cap (nI sz) (k + 1) (nI i) st ex edge op mk := by
  intro k
  induction k with
  | zero =>
    intro i op hi
    exact ⟨op, fun t g1 g2 => absurd g1 (by omega), fun t g => g, fun post hp => br_t (nI_le (by omega) (by omega)) hp⟩
  | succ k ih =>
    intro i op hi
    obtain ⟨op', h1, h2, W⟩ := ih (i + 1) (upd op i 0) (by omega)
    refine ⟨op', fun t g1 g2 => ?_, fun t g => ?_, fun post hp => ?_⟩
    · by_cases e : t = i
      · exact h2 t (by rw [e, pk_us])
      · exact h1 t (by omega) g2
    · refine h2 t ?_
      by_cases e : t = i
      · rw [e, pk_us]
      · rw [pk_un e]
        exact g
    · exact br_f (nI_ge (by omega) (by omega)) ⟨vp_in_nI (by omega) (by omega), nm_r (e' := upd op i 0) (by rw [nI_clamp (by omega), dm_o0]) (nm_r (nI_1 i) (W post hp))⟩
/-- the reference's search for the watermark -/
def dm_sc (op : Nat → Int32) : Nat → Int32 → Int32
  | 0 => fun x => x
  | i + 1 => fun x => dm_sc op i (if op i = 0 then x else nI i)
theorem dm_sc0 {op : Nat → Int32} : ∀ (i : Nat) (x : Int32), (∀ t, t < i → op t = 0) → dm_sc op i x = x
  | 0, _, _ => rfl
  | i + 1, x, h => by
    show dm_sc op i (if op i = 0 then x else nI i) = x
    rw [if_pos (h i (by omega))]
    exact dm_sc0 i x (fun t ht => h t (by omega))
theorem dm_sc1 {op : Nat → Int32} {l : Nat} (hl : ¬ op l = 0) (h : ∀ t, t < l → op t = 0) : ∀ (i : Nat) (x : Int32), l < i → dm_sc op i x = nI l
  | 0, _, hi => absurd hi (Nat.not_lt_zero l)
  | i + 1, x, hi => by
    show dm_sc op i (if op i = 0 then x else nI i) = nI l
    by_cases e : l = i
    · subst e
      rw [if_neg hl]
      exact dm_sc0 l (nI l) h
    · exact dm_sc1 hl h i _ (by omega)
theorem dm_scL {low : Int32} {sz : Nat} {op : Nat → Int32} (h : dm_Lw low sz op) : dm_sc op sz (-1) = low := by
  rcases h.2 with ⟨e, hz⟩ | ⟨l, hl, e, hn, hz⟩
  · rw [e]
    exact dm_sc0 sz (-1) (fun t _ => hz t)
  · rw [e]
    exact dm_sc1 hn hz sz (-1) hl
theorem dm_y24 {post : Int32 → SY → Prop} {x1 cap size : Int32} {st edge op mk : Nat → Int32} {ex : Nat → Int64} : ∀ (i : Nat) (x : Int32), i ≤ 8 → wY_finish_24 post x1 cap size st ex edge op mk 1 (dm_sc op i x) (-1) → wY_finish_24 post x1 cap size st ex edge op mk (i + 1) x (nI i + (-1)) := by
  intro i
  induction i with
  | zero =>
    intro x _ h
    exact h
  | succ i ih =>
    intro x hi h
    rw [pk_m1]
    have hin : vp_in (nI i) 8 := vp_in_nI (by omega) (by omega)
    have eci : (nI i).toNatClampNeg = i := nI_clamp (by omega)
    by_cases z : op i = 0
    · have h' : wY_finish_24 post x1 cap size st ex edge op mk 1 (dm_sc op i (if op i = 0 then x else nI i)) (-1) := h
      rw [if_pos z] at h'
      exact br_f (nI_pos (by omega)) ⟨hin, br_t (by rw [eci]; exact z) (nm_e (ih x (by omega) h'))⟩
    · have h' : wY_finish_24 post x1 cap size st ex edge op mk 1 (dm_sc op i (if op i = 0 then x else nI i)) (-1) := h
      rw [if_neg z] at h'
      exact br_f (nI_pos (by omega)) ⟨hin, br_f (by rw [eci]; exact z) (nm_e (ih (nI i) (by omega) h'))⟩
/-- the guards of markDependency, alike on both sides -/
def dm_G (p0 p1 size : Int32) (st : Nat → Int32) (R : Int32 → Prop) (K3 K2 : Prop) : Prop :=
  (p0 = p1 → R 0) ∧ (¬ p0 = p1 → ((p0 = (-1) → R 0) ∧ (¬ p0 = (-1) → ((p1 = (-1) → R 0) ∧ (¬ p1 = (-1) → ((p0 < 0 → R (-2)) ∧ (¬ p0 < 0 → ((size ≤ p0 → R (-2)) ∧ (¬ size ≤ p0 → ((p1 < 0 → R (-2)) ∧ (¬ p1 < 0 → ((p1 < size →
    (vp_in p0 8 ∧ ((st p0.toNatClampNeg = 3 → R 0) ∧ (¬ st p0.toNatClampNeg = 3 → (vp_in p0 8 ∧ ((st p0.toNatClampNeg = 1 → R (-3)) ∧ (¬ st p0.toNatClampNeg = 1 → (vp_in p1 8 ∧ ((st p1.toNatClampNeg = 1 → R 0) ∧ (¬ st p1.toNatClampNeg = 1 → (vp_in p1 8 ∧ ((st p1.toNatClampNeg = 3 → (vp_in p1 8 ∧ K3)) ∧ (¬ st p1.toNatClampNeg = 3 → K2)))))))))))))
    ∧ (¬ p1 < size → R (-2))))))))))))))
theorem dm_Gk (p0 p1 : Int32) {sz : Nat} {st : Nat → Int32} (hsz : sz ≤ 8) (hst : ∀ j, j < sz → st j = 1 ∨ st j = 2 ∨ st j = 3) :
    (∃ r : Int32, ∀ (R : Int32 → Prop) (K3 K2 : Prop), R r → dm_G p0 p1 (nI sz) st R K3 K2) ∨
    ∃ d t : Nat, d < sz ∧ t < sz ∧ p0 = nI d ∧ p1 = nI t ∧ st d = 2 ∧
      ((st t = 3 ∧ ∀ (R : Int32 → Prop) (K3 K2 : Prop), K3 → dm_G p0 p1 (nI sz) st R K3 K2) ∨ (st t = 2 ∧ ∀ (R : Int32 → Prop) (K3 K2 : Prop), K2 → dm_G p0 p1 (nI sz) st R K3 K2)) := by
  by_cases h1 : p0 = p1
  · exact Or.inl ⟨_, fun R K3 K2 h => br_t h1 h⟩
  by_cases h2 : p0 = -1
  · exact Or.inl ⟨_, fun R K3 K2 h => br_f h1 (br_t h2 h)⟩
  by_cases h3 : p1 = -1
  · exact Or.inl ⟨_, fun R K3 K2 h => br_f h1 (br_f h2 (br_t h3 h))⟩
  by_cases h4 : p0 < 0
  · exact Or.inl ⟨_, fun R K3 K2 h => br_f h1 (br_f h2 (br_f h3 (br_t h4 h)))⟩
  by_cases h5 : nI sz ≤ p0
  · exact Or.inl ⟨_, fun R K3 K2 h => br_f h1 (br_f h2 (br_f h3 (br_f h4 (br_t h5 h))))⟩
  by_cases h6 : p1 < 0
  · exact Or.inl ⟨_, fun R K3 K2 h => br_f h1 (br_f h2 (br_f h3 (br_f h4 (br_f h5 (br_t h6 h)))))⟩
  by_cases h7 : p1 < nI sz
  · obtain ⟨d, hd, rfl⟩ := nI_of h4
    obtain ⟨t, ht, rfl⟩ := nI_of h6
    rw [nI_leI (by omega) hd] at h5
    have h7' := (nI_ltI ht (by omega)).mp h7
    have h5' : ¬ nI sz ≤ nI d := nI_ge (by omega) (by omega)
    have i0 : vp_in (nI d) 8 := vp_in_nI (by omega) (by omega)
    have i1 : vp_in (nI t) 8 := vp_in_nI (by omega) (by omega)
    have ed : (nI d).toNatClampNeg = d := nI_clamp hd
    have et : (nI t).toNatClampNeg = t := nI_clamp ht
    by_cases z1 : st (nI d).toNatClampNeg = 3
    · exact Or.inl ⟨_, fun R K3 K2 h => br_f h1 (br_f h2 (br_f h3 (br_f h4 (br_f h5' (br_f h6 (br_t h7 ⟨i0, br_t z1 h⟩))))))⟩
    by_cases z2 : st (nI d).toNatClampNeg = 1
    · exact Or.inl ⟨_, fun R K3 K2 h => br_f h1 (br_f h2 (br_f h3 (br_f h4 (br_f h5' (br_f h6 (br_t h7 ⟨i0, br_f z1 ⟨i0, br_t z2 h⟩⟩))))))⟩
    by_cases z3 : st (nI t).toNatClampNeg = 1
    · exact Or.inl ⟨_, fun R K3 K2 h => br_f h1 (br_f h2 (br_f h3 (br_f h4 (br_f h5' (br_f h6 (br_t h7 ⟨i0, br_f z1 ⟨i0, br_f z2 ⟨i1, br_t z3 h⟩⟩⟩))))))⟩
    have e2 : st d = 2 := by
      rw [ed] at z1 z2
      rcases hst d (by omega) with e | e | e
      · exact absurd e z2
      · exact e
      · exact absurd e z1
    refine Or.inr ⟨d, t, by omega, h7', rfl, rfl, e2, ?_⟩
    by_cases z4 : st (nI t).toNatClampNeg = 3
    · exact Or.inl ⟨by rw [et] at z4; exact z4, fun R K3 K2 h => br_f h1 (br_f h2 (br_f h3 (br_f h4 (br_f h5' (br_f h6 (br_t h7 ⟨i0, br_f z1 ⟨i0, br_f z2 ⟨i1, br_f z3 ⟨i1, br_t z4 ⟨i1, h⟩⟩⟩⟩⟩))))))⟩
    · refine Or.inr ⟨?_, fun R K3 K2 h => br_f h1 (br_f h2 (br_f h3 (br_f h4 (br_f h5' (br_f h6 (br_t h7 ⟨i0, br_f z1 ⟨i0, br_f z2 ⟨i1, br_f z3 ⟨i1, br_f z4 h⟩⟩⟩⟩))))))⟩
      rw [et] at z3 z4
      rcases hst t h7' with e | e | e
      · exact absurd e z3
      · exact e
      · exact absurd e z4
  · exact Or.inl ⟨_, fun R K3 K2 h => br_f h1 (br_f h2 (br_f h3 (br_f h4 (br_f h5 (br_f h6 (br_f h7 h))))))⟩
end
section
theorem i_up {k : Nat} {u : SX} {v : SY} (h : i_Rel k u v) : i_Rel (k + 4) u v := h
theorem dm_F0 {cap : Nat} (h1 : 1 ≤ cap) (h8 : cap ≤ 8) (hd : Nat → Int32) : i_Rel 1 (nI cap, 0, -1, 0, (fun _ => 0), (fun _ => 0), hd, (fun _ => 0), (fun _ => 0), (fun _ => 0)) (nI cap, 0, (fun _ => 0), (fun _ => 0), (fun _ => 0), (fun _ => 0), (fun _ => 0)) := by
  refine dm_in (sz := 0) (us := 0) (own := fun _ => 0) (dv := fun _ => 0) ⟨⟨h1, h8, Nat.zero_le _, Nat.zero_le _⟩, fun j hj => absurd hj (Nat.not_lt_zero j), fun j _ => rfl, fun j hj => absurd hj (Nat.not_lt_zero j), fun j hj => absurd hj (Nat.not_lt_zero j), fun j hj => absurd hj (Nat.not_lt_zero j), rfl, fun t _ => rfl, Or.inl ⟨rfl, fun _ => rfl⟩⟩
theorem dm_X0 {post : SX → Prop} {x2 : Int32} (h : ∀ hd : Nat → Int32, post (x2, 0, -1, 0, (fun _ => 0), (fun _ => 0), hd, (fun _ => 0), (fun _ => 0), (fun _ => 0))) : wX_init_70 post x2 0 0 0 0 (fun _ => 0) (fun _ => 0) (fun _ => 0) (fun _ => 0) (fun _ => 0) (fun _ => 0) :=
  Exists.intro 9 (dm_xi h 8 0 _ rfl)
theorem i_vc0 (k0 : Int32) : wpX_init (fun u => wpY_init (fun v => i_Rel 1 u v) k0) k0 := by
  by_cases h1 : 1 ≤ k0
  · by_cases h8 : k0 ≤ 8
    · have h0 : ¬ k0 < 0 := fun z => by
        have a : (1 : Int32).toInt = 1 := by decide
        have b : (0 : Int32).toInt = 0 := by decide
        rw [Int32.le_iff_toInt_le, a] at h1
        rw [Int32.lt_iff_toInt_lt, b] at z
        omega
      obtain ⟨j, hj, rfl⟩ := nI_of2 (M := 8) (n := 8) (by decide) h0 h8
      have h1' : 1 ≤ j := (nI_leI (a := 1) (by decide) (by omega)).mp h1
      exact br_t h1 (br_t h8 (dm_X0 fun hd => br_t h1 (br_t h8 (dm_F0 h1' hj hd))))
    · exact br_t h1 (br_f h8 (dm_X0 fun hd => br_t h1 (br_f h8 (dm_F0 (cap := 8) (by decide) (by decide) hd))))
  · exact br_f h1 (br_t (by decide) (dm_X0 fun hd => br_f h1 (dm_F0 (cap := 1) (by decide) (by decide) hd)))
theorem i_vc_assign {k : Nat} {u : SX} {v : SY} (I : i_Rel k u v) (hk : k + 4 ≤ 2049) : wpX_assign (fun r u' => wpY_assign (fun r' v' => r' = r ∧ i_Rel (k + 4) u' v') v) u := by
  refine dm_el (P := fun u v => wpX_assign (fun r u' => wpY_assign (fun r' v' => r' = r ∧ i_Rel (k + 4) u' v') v) u) ?_ I
  intro cap sz us low st ex hd nx vl sk edge op mk own dv F
  have f := F.1
  by_cases h : sz = cap
  · exact br_t (by rw [h]) (br_f (nI_nlt (by omega) (by omega)) ⟨rfl, dm_in F⟩)
  · have hin : vp_in (nI sz) 8 := vp_in_nI (by omega) (by omega)
    have ec : (nI sz).toNatClampNeg = sz := nI_clamp (by omega)
    have e1 : upd st (nI sz).toNatClampNeg (vp_nar .byte 2) = upd st sz 2 := by rw [ec, dm_b2]
    refine br_f (fun e => h ((nI_eq (by omega) (by omega)).mp e)) ⟨hin, nm_r e1 ⟨hin, nm_r (e' := ex) (by rw [ec]; exact dm_Fex F) ⟨hin, ?_⟩⟩⟩
    refine nm_r (e' := upd hd sz (-1)) (by rw [ec, dm_sm1]) (nm_r (nI_1 sz) ?_)
    exact br_t (nI_lt (by omega) (by omega)) ⟨hin, nm_r e1 (nm_r (nI_1 sz) ⟨rfl, dm_in (dm_Fasg F (by omega))⟩)⟩
theorem i_vc_markDependency {k : Nat} {u : SX} {v : SY} (I : i_Rel k u v) (hk : k + 4 ≤ 2049) (v1 : Int32) (v2 : Int32) : wpX_markDependency (fun r u' => wpY_markDependency (fun r' v' => r' = r ∧ i_Rel (k + 4) u' v') v v1 v2) u v1 v2 := by
  refine dm_el (P := fun u v => wpX_markDependency (fun r u' => wpY_markDependency (fun r' v' => r' = r ∧ i_Rel (k + 4) u' v') v v1 v2) u v1 v2) ?_ I
  intro cap sz us low st ex hd nx vl sk edge op mk own dv F
  have F0 := F
  obtain ⟨⟨f1, f2, f3, f4⟩, g2, g3, g4, g5, g6, g7, g8⟩ := F0
  rcases dm_Gk v1 v2 (sz := sz) (st := st) (by omega) g2 with ⟨r, G⟩ | ⟨d, t, hds, hts, rfl, rfl, e2, ⟨e3, G⟩ | ⟨e3, G⟩⟩
  · exact G (fun r => wpY_markDependency (fun r' v' => r' = r ∧ i_Rel (k + 4) (nI cap, nI us, low, nI sz, st, ex, hd, nx, vl, sk) v') (nI cap, nI sz, st, ex, edge, op, mk) v1 v2) _ _ (G (fun r' => r' = r ∧ i_Rel (k + 4) (nI cap, nI us, low, nI sz, st, ex, hd, nx, vl, sk) (nI cap, nI sz, st, ex, edge, op, mk)) _ _ ⟨rfl, dm_in F⟩)
  · have et : (nI t).toNatClampNeg = t := nI_clamp (by omega)
    obtain ⟨r, st', ex', hd', sk', mk', F', WX, WY⟩ := dm_taint F (s := d) (id := ex (nI t).toNatClampNeg) hds e2 (by rw [et]; exact g4 t hts e3) sk mk
    refine G (fun r => wpY_markDependency (fun r' v' => r' = r ∧ i_Rel (k + 4) (nI cap, nI us, low, nI sz, st, ex, hd, nx, vl, sk) v') (nI cap, nI sz, st, ex, edge, op, mk) (nI d) (nI t)) _ _ (WX _ ?_)
    refine G (fun r' => r' = 2 ∧ i_Rel (k + 4) (nI cap, nI us, low, nI sz, st', ex', hd', nx, vl, sk') (nI cap, nI sz, st, ex, edge, op, mk)) _ _ (WY _ ?_)
    exact ⟨rfl, dm_in F'⟩
  · have ed : (nI d).toNatClampNeg = d := nI_clamp (by omega)
    have et : (nI t).toNatClampNeg = t := nI_clamp (by omega)
    have i1 : vp_in (nI t) 8 := vp_in_nI (by omega) (by omega)
    have ecap : 2 * nI cap = nI (2 * cap) := pk_mul 2 cap
    have hcc : cap * cap ≤ 8 * 8 := Nat.mul_le_mul f2 f2
    have hix : d * cap + t < 64 := dm_ix (by omega) f2 (by omega)
    have hlt : ∀ c, c < us → (fun c => dv c * cap + own c) c < cap * cap := fun c hc => by
      obtain ⟨z1, z2, _, _⟩ := g5 c hc
      have h1 : (dv c + 1) * cap ≤ cap * cap := Nat.mul_le_mul_right cap (by omega)
      rw [Nat.add_mul, Nat.one_mul] at h1
      show dv c * cap + own c < cap * cap
      omega
    have hsum := dm_cntS (K := cap * cap) us hlt
    subst g7
    have Y110 := fun (post : Int32 → SY → Prop) h => dm_y110 (post := post) (p0 := nI d) (p1 := nI t) (size := nI sz) (st := st) (op := op) (mk := mk) (ex := ex) (eg := fun k => dm_cnt (fun c => dv c * cap + own c) k us) f2 h (cap * cap) 0 (by omega)
    rw [hsum] at Y110
    by_cases hu : us = 2 * cap
    · refine G (fun r => wpY_markDependency (fun r' v' => r' = r ∧ i_Rel (k + 4) (nI cap, nI us, low, nI sz, st, ex, hd, nx, vl, sk) v') (nI cap, nI sz, st, ex, (fun k => nI (dm_cnt (fun c => dv c * cap + own c) k us)), op, mk) (nI d) (nI t)) _ _ ?_
      refine br_t (by rw [ecap, hu]) ?_
      refine G (fun r' => r' = -4 ∧ i_Rel (k + 4) (nI cap, nI us, low, nI sz, st, ex, hd, nx, vl, sk) (nI cap, nI sz, st, ex, (fun k => nI (dm_cnt (fun c => dv c * cap + own c) k us)), op, mk)) _ _ ⟨_, Y110 _ ?_⟩
      exact br_t (by rw [pk_mul]; exact nI_le (Nat.le_refl _) (by omega)) (br_f (by rw [ecap]; exact nI_nlt (by omega) (by omega)) ⟨rfl, dm_in F⟩)
    · have iu : vp_in (nI us) 16 := vp_in_nI (by omega) (by omega)
      have eu : (nI us).toNatClampNeg = us := nI_clamp (by omega)
      have eix : nI d * nI cap + nI t = nI (d * cap + t) := by rw [pk_mul, nI_add]
      have ie : vp_in (nI d * nI cap + nI t) 64 := by rw [eix]; exact vp_in_nI hix (by omega)
      have ece : (nI d * nI cap + nI t).toNatClampNeg = d * cap + t := by rw [eix]; exact nI_clamp (by omega)
      have hcb : dm_cnt (fun c => dv c * cap + own c) (d * cap + t) us ≤ us := dm_cntB us
      obtain ⟨low', hL, HL⟩ := dm_Lwd g8 (by omega) hts
      have F' := dm_Fdep F hds hts e3 (by omega) hL
      refine G (fun r => wpY_markDependency (fun r' v' => r' = r ∧ i_Rel (k + 4) (nI cap, nI us, low, nI sz, st, ex, hd, nx, vl, sk) v') (nI cap, nI sz, st, ex, (fun k => nI (dm_cnt (fun c => dv c * cap + own c) k us)), op, mk) (nI d) (nI t)) _ _ ?_
      refine br_f (fun e => hu ((nI_eq (by omega) (by omega)).mp (e.trans ecap))) ⟨iu, ?_⟩
      refine nm_r (e' := upd vl us (nI d)) (by rw [eu, dm_sNN (by omega)]) ⟨i1, iu, ?_⟩
      refine nm_r (e' := upd nx us (hd t)) (by rw [eu, et, g6 t hts e3, dm_prS (by omega)]) ⟨i1, ?_⟩
      refine nm_r (e' := upd hd t (nI us)) (by rw [et, dm_sNN (by omega)]) ?_
      refine nm_r (nI_1 us) ?_
      refine HL (fun low' => wpY_markDependency (fun r' v' => r' = 1 ∧ i_Rel (k + 4) (nI cap, nI (us + 1), low', nI sz, st, ex, upd hd t (nI us), upd nx us (hd t), upd vl us (nI d), sk) v') (nI cap, nI sz, st, ex, (fun k => nI (dm_cnt (fun c => dv c * cap + own c) k us)), op, mk) (nI d) (nI t)) ?_
      refine G (fun r' => r' = 1 ∧ i_Rel (k + 4) (nI cap, nI (us + 1), low', nI sz, st, ex, upd hd t (nI us), upd nx us (hd t), upd vl us (nI d), sk) (nI cap, nI sz, st, ex, (fun k => nI (dm_cnt (fun c => dv c * cap + own c) k us)), op, mk)) _ _ ⟨_, Y110 _ ?_⟩
      refine br_t (by rw [pk_mul]; exact nI_le (Nat.le_refl _) (by omega)) (br_t (by rw [ecap]; exact nI_lt (by omega) (by omega)) ⟨ie, ie, ?_⟩)
      refine nm_r (e' := upd (fun k => nI (dm_cnt (fun c => dv c * cap + own c) k us)) (d * cap + t) ((fun k => nI (dm_cnt (fun c => dv c * cap + own c) k us)) (d * cap + t) + 1)) (by
        (try dsimp only)
        rw [ece, nI_1, dm_sNN (by omega)]) ⟨i1, ?_⟩
      refine nm_r (e' := upd op t 1) (by rw [et, dm_o1]) ?_
      exact ⟨rfl, dm_in F'⟩
theorem i_vc_markException {k : Nat} {u : SX} {v : SY} (I : i_Rel k u v) (hk : k + 4 ≤ 2049) (v1 : Int32) (a1 : Int64) : wpX_markException (fun r u' => wpY_markException (fun r' v' => r' = r ∧ i_Rel (k + 4) u' v') v v1 a1) u v1 a1 := by
  refine dm_el (P := fun u v => wpX_markException (fun r u' => wpY_markException (fun r' v' => r' = r ∧ i_Rel (k + 4) u' v') v v1 a1) u v1 a1) ?_ I
  intro cap sz us low st ex hd nx vl sk edge op mk own dv F
  have f := F.1
  have g2 := F.2.1
  by_cases h0 : v1 < 0
  · exact br_t h0 (br_t h0 ⟨rfl, dm_in F⟩)
  by_cases h1 : v1 < nI sz
  · obtain ⟨s, hs, rfl⟩ := nI_of h0
    have hs' := (nI_ltI hs (by omega)).mp h1
    have hin : vp_in (nI s) 8 := vp_in_nI (by omega) (by omega)
    by_cases hz : a1 = 0
    · exact br_f h0 (br_t h1 (br_t hz (br_f h0 (br_t h1 (br_t hz ⟨rfl, dm_in F⟩)))))
    by_cases z1 : st (nI s).toNatClampNeg = 1
    · exact br_f h0 (br_t h1 (br_f hz ⟨hin, br_t z1 (br_f h0 (br_t h1 (br_f hz ⟨hin, br_t z1 ⟨rfl, dm_in F⟩⟩)))⟩))
    by_cases z3 : st (nI s).toNatClampNeg = 3
    · exact br_f h0 (br_t h1 (br_f hz ⟨hin, br_f z1 ⟨hin, br_t z3 (br_f h0 (br_t h1 (br_f hz ⟨hin, br_f z1 ⟨hin, br_t z3 ⟨rfl, dm_in F⟩⟩⟩)))⟩⟩))
    have h2 : st s = 2 := by
      rw [nI_clamp hs] at z1 z3
      rcases g2 s hs' with e | e | e
      · exact absurd e z1
      · exact e
      · exact absurd e z3
    obtain ⟨r, st', ex', hd', sk', mk', F', WX, WY⟩ := dm_taint F hs' h2 hz sk mk
    refine br_f h0 (br_t h1 (br_f hz ⟨hin, br_f z1 ⟨hin, br_f z3 (WX _ ?_)⟩⟩))
    exact WY _ ⟨rfl, dm_in F'⟩
  · exact br_f h0 (br_f h1 (br_f h0 (br_f h1 ⟨rfl, dm_in F⟩)))
theorem i_vc_finish {k : Nat} {u : SX} {v : SY} (I : i_Rel k u v) (hk : k + 4 ≤ 2049) (v1 : Int32) : wpX_finish (fun r u' => wpY_finish (fun r' v' => r' = r ∧ i_Rel (k + 4) u' v') v v1) u v1 := by
  refine dm_el (P := fun u v => wpX_finish (fun r u' => wpY_finish (fun r' v' => r' = r ∧ i_Rel (k + 4) u' v') v v1) u v1) ?_ I
  intro cap sz us low st ex hd nx vl sk edge op mk own dv F
  have f := F.1
  have hL := F.2.2.2.2.2.2.2
  by_cases h0 : v1 < 0
  · exact br_t h0 (br_t h0 ⟨rfl, dm_in F⟩)
  by_cases h1 : v1 < nI sz
  · obtain ⟨h, hh, rfl⟩ := nI_of h0
    have hs := (nI_ltI hh (by omega)).mp h1
    have Y24 : ∀ post : Int32 → SY → Prop, wY_finish_24 post (nI h) (nI cap) (nI sz) st ex edge op mk 1 low (-1) → wpY_finish post (nI cap, nI sz, st, ex, edge, op, mk) (nI h) := fun post hp => by
      refine br_f h0 (br_t h1 (nm_r (Int32.sub_eq_add_neg (nI sz) 1) ⟨sz + 1, ?_⟩))
      refine dm_y24 sz (-1) (by omega) ?_
      rw [dm_scL hL]
      exact hp
    rcases hL.2 with ⟨e, hz⟩ | ⟨l, hl, e, hn, hz⟩
    · subst e
      obtain ⟨r, st', hd', k1, k2, WX, WY⟩ := dm_fin (e := h + 1) (by omega) 1 h 0 st hd rfl
      refine br_f h0 (br_t h1 (br_f (by decide) (nm_r (nI_1 h) ⟨2, WX _ _ _ _ _ _ _ _ _ ?_⟩)))
      refine Y24 _ (br_t (by decide) (nm_r (nI_1 h) (br_t (by decide) ⟨2, WY _ _ _ _ _ _ _ ?_⟩)))
      exact ⟨rfl, dm_in (dm_Ffin F k1 k2 hL)⟩
    · subst e
      have hp : ¬ nI l < 0 := nI_pos (by omega)
      by_cases hlh : l < h
      · refine br_f h0 (br_t h1 (br_t (nI_pos' (by omega)) (br_t (nI_lt hlh (by omega)) ?_)))
        exact Y24 _ (br_t (by decide) (nm_e (br_f hp (br_f (nI_ge hlh (by omega)) ⟨rfl, dm_in F⟩))))
      · obtain ⟨r, st', hd', k1, k2, WX, WY⟩ := dm_fin (e := sz) (by omega) (sz - h) h 0 st hd (by omega)
        obtain ⟨op', o1, o2, W69⟩ := dm_y69 (cap := nI cap) (h := nI h) (st := st) (edge := edge) (mk := mk) (ex := ex) (sz := sz) (by omega) sz 0 op (by omega)
        have hop : ∀ t, op' t = 0 := fun t => by
          by_cases z : t < sz
          · exact o1 t (Nat.zero_le _) z
          · exact o2 t (hL.1 t (by omega))
        refine br_f h0 (br_t h1 (br_t (nI_pos' (by omega)) (br_f (nI_nlt (by omega) (by omega)) ⟨sz - h + 1, WX _ _ _ _ _ _ _ _ _ ?_⟩)))
        refine Y24 _ (br_t (by decide) (nm_e (br_f hp (br_t (nI_le (by omega) (by omega)) ⟨sz + 1, W69 _ ⟨sz - h + 1, WY _ _ _ _ _ _ _ ?_⟩⟩))))
        exact ⟨rfl, dm_in (dm_Ffin F k1 k2 ⟨fun t _ => hop t, Or.inl ⟨rfl, hop⟩⟩)⟩
  · exact br_f h0 (br_f h1 (br_f h0 (br_f h1 ⟨rfl, dm_in F⟩)))
theorem i_vc_exceptionOf {k : Nat} {u : SX} {v : SY} (I : i_Rel k u v) (hk : k + 4 ≤ 2049) (v1 : Int32) : wpX_exceptionOf (fun r => wpY_exceptionOf (fun r' => r' = r ∧ i_Rel (k + 4) u v) v v1) u v1 := by
  refine dm_el (P := fun u v => wpX_exceptionOf (fun r => wpY_exceptionOf (fun r' => r' = r ∧ i_Rel (k + 4) u v) v v1) u v1) ?_ I
  intro cap sz us low st ex hd nx vl sk edge op mk own dv F
  have f := F.1
  by_cases h0 : v1 < 0
  · exact br_t h0 (br_t h0 ⟨rfl, dm_in F⟩)
  obtain ⟨s, hs, rfl⟩ := nI_of h0
  by_cases h1 : s < sz
  · have a1 : nI s < nI sz := nI_lt h1 (by omega)
    have a2 : ¬ nI sz ≤ nI s := nI_ge h1 (by omega)
    have hin : vp_in (nI s) 8 := vp_in_nI (by omega) (by omega)
    by_cases z : st (nI s).toNatClampNeg = 3
    · exact br_f h0 (br_t a1 ⟨hin, br_t z ⟨hin, br_f h0 (br_f a2 ⟨hin, br_t z ⟨hin, rfl, dm_in F⟩⟩)⟩⟩)
    · exact br_f h0 (br_t a1 ⟨hin, br_f z (br_f h0 (br_f a2 ⟨hin, br_f z ⟨rfl, dm_in F⟩⟩))⟩)
  · have a1 : ¬ nI s < nI sz := nI_nlt (by omega) hs
    have a2 : nI sz ≤ nI s := nI_le (by omega) hs
    exact br_f h0 (br_f a1 (br_f h0 (br_t a2 ⟨rfl, dm_in F⟩)))
theorem i_vc_statusOf {k : Nat} {u : SX} {v : SY} (I : i_Rel k u v) (hk : k + 4 ≤ 2049) (v1 : Int32) : wpX_statusOf (fun r => wpY_statusOf (fun r' => r' = r ∧ i_Rel (k + 4) u v) v v1) u v1 := by
  refine dm_el (P := fun u v => wpX_statusOf (fun r => wpY_statusOf (fun r' => r' = r ∧ i_Rel (k + 4) u v) v v1) u v1) ?_ I
  intro cap sz us low st ex hd nx vl sk edge op mk own dv F
  have f := F.1
  by_cases h0 : v1 < 0
  · exact br_t h0 (br_t h0 ⟨rfl, dm_in F⟩)
  obtain ⟨s, hs, rfl⟩ := nI_of h0
  by_cases h1 : s < sz
  · have a1 : nI s < nI sz := nI_lt h1 (by omega)
    have hin : vp_in (nI s) 8 := vp_in_nI (by omega) (by omega)
    exact br_f h0 (br_t a1 ⟨hin, br_f h0 (br_t a1 ⟨hin, rfl, dm_in F⟩)⟩)
  · have a1 : ¬ nI s < nI sz := nI_nlt (by omega) hs
    exact br_f h0 (br_f a1 (br_f h0 (br_f a1 ⟨rfl, dm_in F⟩)))
end
