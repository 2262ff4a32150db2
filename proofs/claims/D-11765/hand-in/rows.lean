section
/-- a sparse picture of an array: the first pair that names j, else d -/
def ct_ch {α : Type} (d : α) : List (Nat × α) → Nat → α
  | [], _ => d
  | (k, v) :: t, j => if j = k then v else ct_ch d t j
theorem ct_chc {α : Type} (d : α) (k : Nat) (v : α) (t : List (Nat × α)) (j : Nat) : ct_ch d ((k, v) :: t) j = if j = k then v else ct_ch d t j := rfl
/-- the room array is the picture l -/
def ct_R (l : List (Nat × Nat)) (a : Nat → Int32) : Prop := ∀ j, j < 121 → a j = nI (ct_ch 0 l j) ∧ ct_ch 0 l j < 2 ^ 31
theorem ct_Rc {l : List (Nat × Nat)} {a : Nat → Int32} {k v : Nat} {x : Int32} (h : ct_R l a) (hx : x = nI v) (hv : v < 2 ^ 31) : ct_R ((k, v) :: l) (upd a k x) := by
  intro j hj
  rw [ct_chc]
  by_cases e : j = k
  · rw [if_pos e, e, pk_us]
    exact ⟨hx, hv⟩
  · rw [if_neg e, pk_un e]
    exact h j hj
theorem ct_Rn {l l' : List (Nat × Nat)} {a : Nat → Int32} (h : ct_R l a) (e : ∀ j, ct_ch 0 l j = ct_ch 0 l' j) : ct_R l' a := by
  intro j hj
  rw [← e j]
  exact h j hj
/-- which places hold more than 0 -/
def ct_b (l : List (Nat × Nat)) : List (Nat × Bool) := l.map (fun p => (p.1, decide (0 < p.2)))
theorem ct_bp (l : List (Nat × Nat)) (j : Nat) : ct_ch false (ct_b l) j = decide (0 < ct_ch 0 l j) := by
  induction l with
  | nil => rfl
  | cons p t ih =>
    obtain ⟨k, v⟩ := p
    show ct_ch false ((k, decide (0 < v)) :: ct_b t) j = decide (0 < ct_ch 0 ((k, v) :: t) j)
    rw [ct_chc, ct_chc]
    by_cases e : j = k
    · rw [if_pos e, if_pos e]
    · rw [if_neg e, if_neg e, ih]
theorem ct_bP {l : List (Nat × Nat)} {a : Nat → Int32} (h : ct_R l a) : ∀ j, j < 121 → (ct_ch false (ct_b l) j = true ↔ ¬ a j ≤ 0) := by
  intro j hj
  obtain ⟨e, hb⟩ := h j hj
  rw [ct_bp, decide_eq_true_eq, e, ← nI_0, nI_leI hb (by omega)]
  omega
/-- reachedFrom: 11 and more is 'not reached' -/
def ct_e (n : Nat) : Int32 := if n < 11 then nI n else -1
theorem ct_e1 {n : Nat} (h : n < 11) : ct_e n = nI n := if_pos h
theorem ct_e2 {n : Nat} (h : ¬ n < 11) : ct_e n = -1 := if_neg h
theorem ct_e3 {n : Nat} (h : n < 11) : 0 ≤ ct_e n := by
  rw [ct_e1 h]
  exact nI_pos' (by omega)
theorem ct_e4 {n : Nat} (h : ¬ n < 11) : ¬ 0 ≤ ct_e n := by
  rw [ct_e2 h]
  decide
theorem ct_e5 {n : Nat} (h : n < 11) : ¬ ct_e n < 0 := by
  rw [ct_e1 h]
  exact nI_pos (by omega)
theorem ct_e6 {n : Nat} (h : ¬ n < 11) : ct_e n < 0 := by
  rw [ct_e2 h]
  decide
def ct_E (r : List (Nat × Nat)) (a : Nat → Int32) : Prop := ∀ j, j < 11 → a j = ct_e (ct_ch 11 r j)
theorem ct_Ec {r : List (Nat × Nat)} {a : Nat → Int32} {k v : Nat} (h : ct_E r a) (hv : v < 11) : ct_E ((k, v) :: r) (upd a k (nI v)) := by
  intro j hj
  rw [ct_chc]
  by_cases e : j = k
  · rw [if_pos e, e, pk_us, ct_e1 hv]
  · rw [if_neg e, pk_un e]
    exact h j hj
def ct_Q (q : Nat) (u : List (Nat × Nat)) (a : Nat → Int32) : Prop := ∀ j, j < q → a j = nI (ct_ch 0 u j)
theorem ct_Qc {q : Nat} {u : List (Nat × Nat)} {a : Nat → Int32} {v : Nat} (h : ct_Q q u a) : ct_Q (q + 1) ((q, v) :: u) (upd a q (nI v)) := by
  intro j hj
  rw [ct_chc]
  by_cases e : j = q
  · rw [if_pos e, e, pk_us]
  · rw [if_neg e, pk_un e]
    exact h j (by omega)
/-- the search, as the code goes: over the lines of point number k of the queue -/
def ct_58 (P : Nat → Bool) (k : Nat) : Nat → Nat → Nat → List (Nat × Nat) → List (Nat × Nat) → Option (Nat × List (Nat × Nat) × List (Nat × Nat))
  | 0, _, q, r, u => some (q, r, u)
  | n + 1, p, q, r, u =>
    if ct_ch 11 r p < 11 then ct_58 P k n (p + 1) q r u
    else if ct_ch 0 u k < 11 then
      if P (11 * ct_ch 0 u k + p) = true then
        if q < 11 then ct_58 P k n (p + 1) (q + 1) ((p, ct_ch 0 u k) :: r) ((q, p) :: u) else none
      else ct_58 P k n (p + 1) q r u
    else none
def ct_42 (P : Nat → Bool) : Nat → Nat → Nat → List (Nat × Nat) → List (Nat × Nat) → Option (List (Nat × Nat))
  | 0, _, _, _, _ => none
  | n + 1, k, q, r, u =>
    if q ≤ k then some r
    else match ct_58 P k 11 0 q r u with
      | none => none
      | some s => ct_42 P n (k + 1) s.1 s.2.1 s.2.2
def ct_bf (P : Nat → Bool) (s : Nat) : Option (List (Nat × Nat)) := ct_42 P 12 0 1 [(s, s)] [(0, s)]
/-- the search from s over the lines lb ends, and what it found answers F -/
def ct_chk (lb : List (Nat × Bool)) (s : Nat) (F : List (Nat × Nat) → Bool) : Bool := match ct_bf (ct_ch false lb) s with
  | none => false
  | some r => F r
theorem ct_ck {lb : List (Nat × Bool)} {s : Nat} {F : List (Nat × Nat) → Bool} (h : ct_chk lb s F = true) : ∃ r, ct_bf (ct_ch false lb) s = some r ∧ F r = true := by
  unfold ct_chk at h
  cases e : ct_bf (ct_ch false lb) s with
  | none => rw [e] at h; cases h
  | some r => rw [e] at h; exact ⟨r, rfl, h⟩
/-- the way back from c to the zero end -/
def ct_pth (r : List (Nat × Nat)) : Nat → List Nat → Bool
  | c, [] => decide (c = 9)
  | c, g :: t => decide (¬ c = 9 ∧ ct_ch 11 r c = g ∧ g < 11) && ct_pth r g t
theorem ct_pc {r : List (Nat × Nat)} {c g : Nat} {t : List Nat} (h : ct_pth r c (g :: t) = true) : (¬ c = 9 ∧ ct_ch 11 r c = g ∧ g < 11) ∧ ct_pth r g t = true := by
  rw [ct_pth, Bool.and_eq_true, decide_eq_true_eq] at h
  exact h
/-- the least room on the way -/
def ct_mn (l : List (Nat × Nat)) : Nat → List Nat → Nat → Nat
  | _, [], m => m
  | c, g :: t, m => ct_mn l g t (if m ≤ ct_ch 0 l (11 * g + c) then m else ct_ch 0 l (11 * g + c))
/-- one line of the way is used -/
def ct_a1 (f : Nat) (l : List (Nat × Nat)) (c g : Nat) : List (Nat × Nat) := (11 * g + c, ct_ch 0 l (11 * g + c) - f) :: l
def ct_a2 (f : Nat) (l : List (Nat × Nat)) (c g : Nat) : List (Nat × Nat) := (11 * c + g, ct_ch 0 (ct_a1 f l c g) (11 * c + g) + f) :: ct_a1 f l c g
def ct_ag (f : Nat) : List (Nat × Nat) → Nat → List Nat → List (Nat × Nat)
  | l, _, [] => l
  | l, c, g :: t => ct_ag f (ct_a2 f l c g) g t
def ct_ok (f : Nat) : List (Nat × Nat) → Nat → List Nat → Prop
  | _, _, [] => True
  | l, c, g :: t => (f ≤ ct_ch 0 l (11 * g + c) ∧ ct_ch 0 (ct_a1 f l c g) (11 * c + g) + f < 2 ^ 31) ∧ ct_ok f (ct_a2 f l c g) g t
end
section
theorem ct_ix (w p : Nat) : (11 : Int32) * nI w + nI p = nI (11 * w + p) := by
  rw [show (11 : Int32) = nI 11 from rfl, pk_mul, nI_add]
theorem ct_w58 {post : St2 → Prop} {J : Int32 → Int32 → (Nat → Int32) → (Nat → Int32) → (Nat → Int32) → (Nat → Int32) → (Nat → Int32) → (Nat → Int32) → (Nat → Int32) → (Nat → Int32) → (Nat → Int32) → (Nat → Int32) → Prop} {P : Nat → Bool} {k : Nat} {a1 a2 a3 a4 a5 a6 a7 a8 : Nat → Int32} {q' : Nat} {r' u' : List (Nat × Nat)} (hk : k < 11) (hP : ∀ j, j < 121 → (P j = true ↔ ¬ a8 j ≤ 0))
    (H : k < q' → q' ≤ 11 → ∀ a9 a10, ct_E r' a9 → ct_Q q' u' a10 → J (nI (k + 1)) (nI q') a1 a2 a3 a4 a5 a6 a7 a8 a9 a10) :
    ∀ (n p q : Nat) (r u : List (Nat × Nat)) (f : Nat) (a9 a10 : Nat → Int32), n + p = 11 → n < f → ct_58 P k n p q r u = some (q', r', u') → k < q → q ≤ 11 → ct_E r a9 → ct_Q q u a10 → wX_search_58 post J (nI k) f (nI p) (nI q) a1 a2 a3 a4 a5 a6 a7 a8 a9 a10 := by
  intro n
  induction n with
  | zero =>
    intro p q r u f a9 a10 hp hf h hkq hq hE hQ
    obtain ⟨g, rfl⟩ : ∃ g, f = g + 1 := ⟨f - 1, by omega⟩
    have e : p = 11 := by omega
    subst e
    rw [ct_58, Option.some.injEq, Prod.mk.injEq, Prod.mk.injEq] at h
    obtain ⟨h1, h2, h3⟩ := h
    subst h1 h2 h3
    exact pk_le 11 11 (fun _ => nm_r (nI_1 k) (H hkq hq a9 a10 hE hQ)) (fun z => absurd z (by omega))
  | succ n ih =>
    intro p q r u f a9 a10 hp hf h hkq hq hE hQ
    obtain ⟨g, rfl⟩ : ∃ g, f = g + 1 := ⟨f - 1, by omega⟩
    have hp' : p < 11 := by omega
    have e9 := hE p hp'
    have ek := hQ k hkq
    rw [ct_58] at h
    refine pk_le 11 p (fun z => absurd z (by omega)) (fun _ => ⟨pk_in p 11 hp', ?_⟩)
    rw [nI_clamp (show p < 2 ^ 31 by omega), nI_clamp (show k < 2 ^ 31 by omega), nI_clamp (show q < 2 ^ 31 by omega), e9, ek]
    by_cases c1 : ct_ch 11 r p < 11
    · rw [if_pos c1] at h
      exact br_t (ct_e3 c1) (nm_r (nI_1 p) (ih (p + 1) q r u g a9 a10 (by omega) (by omega) h hkq hq hE hQ))
    · rw [if_neg c1] at h
      generalize ct_ch 0 u k = w at h
      by_cases c2 : w < 11
      · rw [if_pos c2] at h
        refine br_f (ct_e4 c1) ⟨pk_in k 11 hk, ?_⟩
        rw [ct_ix, nI_clamp (show 11 * w + p < 2 ^ 31 by omega)]
        refine ⟨pk_in (11 * w + p) 121 (by omega), ?_⟩
        by_cases c3 : P (11 * w + p) = true
        · rw [if_pos c3] at h
          by_cases c4 : q < 11
          · rw [if_pos c4] at h
            exact br_f ((hP _ (by omega)).mp c3) ⟨pk_in k 11 hk, pk_in p 11 hp', nm_e ⟨pk_in q 11 c4, nm_e (nm_r (nI_1 q) (nm_r (nI_1 p) (ih (p + 1) (q + 1) ((p, w) :: r) ((q, p) :: u) g _ _ (by omega) (by omega) h (by omega) (by omega) (ct_Ec hE c2) (ct_Qc hQ))))⟩⟩
          · rw [if_neg c4] at h
            cases h
        · rw [if_neg c3] at h
          exact br_t (Decidable.byContradiction (fun z => c3 ((hP _ (by omega)).mpr z))) (nm_r (nI_1 p) (ih (p + 1) q r u g a9 a10 (by omega) (by omega) h hkq hq hE hQ))
      · rw [if_neg c2] at h
        cases h
theorem ct_w42 {post : St2 → Prop} {P : Nat → Bool} {a1 a2 a3 a4 a5 a6 a7 a8 : Nat → Int32} {r' : List (Nat × Nat)} (hP : ∀ j, j < 121 → (P j = true ↔ ¬ a8 j ≤ 0))
    (H : ∀ (q : Int32) (a9 a10 : Nat → Int32), ct_E r' a9 → post (q, a1, a2, a3, a4, a5, a6, a7, a8, a9, a10)) :
    ∀ (n k q : Nat) (r u : List (Nat × Nat)) (a9 a10 : Nat → Int32), ct_42 P n k q r u = some r' → k < 2 ^ 30 → q ≤ 11 → ct_E r a9 → ct_Q q u a10 → wX_search_42 post n (nI k) (nI q) a1 a2 a3 a4 a5 a6 a7 a8 a9 a10 := by
  intro n
  induction n with
  | zero =>
    intro k q r u a9 a10 h
    rw [ct_42] at h
    cases h
  | succ n ih =>
    intro k q r u a9 a10 h hk hq hE hQ
    rw [ct_42] at h
    by_cases c1 : q ≤ k
    · rw [if_pos c1, Option.some.injEq] at h
      subst h
      exact br_t (nI_le c1 (by omega)) (H _ _ _ hE)
    · rw [if_neg c1] at h
      refine br_f (nI_ge (by omega) (by omega)) (br_f (nI_ge (b := 11) (by omega) (by decide)) ?_)
      cases hm : ct_58 P k 11 0 q r u with
      | none =>
        rw [hm] at h
        cases h
      | some s =>
        obtain ⟨q2, r2, u2⟩ := s
        rw [hm] at h
        exact ⟨12, ct_w58 (by omega) hP (fun _ hq2 b9 b10 x9 x10 => ih (k + 1) q2 r2 u2 b9 b10 h (by omega) hq2 x9 x10) 11 0 q r u 12 a9 a10 rfl (by omega) hm (by omega) hq hE hQ⟩
theorem ct_fl {c : Int32} {s : Nat → Int32} {i : Nat} (h : ∀ j, j < i → s j = c) : ∀ j, j < i + 1 → upd s i c j = c := by
  intro j hj
  by_cases e : j = i
  · rw [e, pk_us]
  · rw [pk_un e]
    exact h j (by omega)
theorem ct_search {post : St2 → Prop} {q : Int32} {a1 a2 a3 a4 a5 a6 a7 a8 a9 a10 : Nat → Int32} {P : Nat → Bool} {s : Nat} {r' : List (Nat × Nat)} (hs : s < 11) (hP : ∀ j, j < 121 → (P j = true ↔ ¬ a8 j ≤ 0)) (hb : ct_bf P s = some r')
    (H : ∀ (q : Int32) (a9 a10 : Nat → Int32), ct_E r' a9 → post (q, a1, a2, a3, a4, a5, a6, a7, a8, a9, a10)) : wpX_search post (q, a1, a2, a3, a4, a5, a6, a7, a8, a9, a10) (nI s) := by
  refine pk_loop (fun n i a => wX_search_2 post (nI s) q n (nI i) a1 a2 a3 a4 a5 a6 a7 a8 a a10) (fun i a => ∀ j, j < i → a j = -1) 11 0 a9 (by omega) (fun j hj => absurd hj (by omega)) ?_ ?_
  · intro n a h
    refine pk_le 11 11 (fun _ => ⟨pk_in s 11 hs, nm_r (by rw [nI_clamp (show s < 2 ^ 31 by omega)]) (nm_e ⟨12, ?_⟩)⟩) (fun z => absurd z (by omega))
    have hE : ct_E [] a := fun j hj => h j hj
    have hQ : ct_Q 0 [] a10 := fun j hj => absurd hj (by omega)
    exact ct_w42 hP H 12 0 1 [(s, s)] [(0, s)] _ _ hb (by omega) (by omega) (ct_Ec hE hs) (ct_Qc hQ)
  · intro n i a hi h hw
    exact pk_le 11 i (fun z => absurd z (by omega)) (fun _ => ⟨pk_in i 11 hi, nm_r (by rw [nI_clamp (show i < 2 ^ 31 by omega)]) (nm_r (nI_1 i) (hw _ (ct_fl h)))⟩)
/-- a search over the picture l -/
theorem ct_srch {post : St2 → Prop} {q : Int32} {a1 a2 a3 a4 a5 a6 a7 a8 a9 a10 : Nat → Int32} {l : List (Nat × Nat)} {s : Nat} {F : List (Nat × Nat) → Bool} (hs : s < 11) (hR : ct_R l a8) (hc : ct_chk (ct_b l) s F = true)
    (H : ∀ (r : List (Nat × Nat)) (q : Int32) (a9 a10 : Nat → Int32), F r = true → ct_E r a9 → post (q, a1, a2, a3, a4, a5, a6, a7, a8, a9, a10)) : wpX_search post (q, a1, a2, a3, a4, a5, a6, a7, a8, a9, a10) (nI s) := by
  obtain ⟨r, h1, h2⟩ := ct_ck hc
  exact ct_search hs (ct_bP hR) h1 (fun q a9 a10 hE => H r q a9 a10 h2 hE)
end
section
theorem ct_nar {post : Int32 → Prop} {q : Int32} {a1 a2 a3 a4 a5 a6 a7 a8 a9 a10 : Nat → Int32} {l r : List (Nat × Nat)} (hR : ct_R l a8) (hE : ct_E r a9) :
    ∀ (t : List Nat) (c m i f : Nat), c < 11 → i + t.length ≤ 11 → t.length < f → m < 2 ^ 31 → ct_pth r c t = true → post (nI (ct_mn l c t m)) → wX_narrowest_8 post q a1 a2 a3 a4 a5 a6 a7 a8 a9 a10 f (nI m) (nI c) (nI i) := by
  intro t
  induction t with
  | nil =>
    intro c m i f hc hi hf hm hp h
    obtain ⟨g, rfl⟩ : ∃ g, f = g + 1 := ⟨f - 1, by omega⟩
    rw [ct_pth, decide_eq_true_eq] at hp
    subst hp
    exact br_c (fun _ => h) (fun _ => br_t rfl h)
  | cons d t ih =>
    intro c m i f hc hi hf hm hp h
    rw [List.length_cons] at hi hf
    obtain ⟨g, rfl⟩ : ∃ g, f = g + 1 := ⟨f - 1, by omega⟩
    obtain ⟨⟨h9, hd, hd'⟩, hp'⟩ := ct_pc hp
    have e9 : a9 c = nI d := by rw [hE c hc, hd, ct_e1 hd']
    obtain ⟨e8, b8⟩ := hR (11 * d + c) (by omega)
    rw [ct_mn] at h
    refine pk_le 11 i (fun z => absurd z (by omega)) (fun _ => pk_eq c 9 (fun z => absurd z h9) (fun _ => ⟨pk_in c 11 hc, ?_⟩))
    rw [nI_clamp (show c < 2 ^ 31 by omega), e9, ct_ix, nI_clamp (show 11 * d + c < 2 ^ 31 by omega), e8]
    generalize ct_ch 0 l (11 * d + c) = v at h b8
    refine ⟨pk_in (11 * d + c) 121 (by omega), nm_e (pk_le m v (fun z => ?_) (fun z => ?_))⟩
    · rw [if_pos z] at h
      exact ⟨pk_in c 11 hc, nm_r (by rw [nI_clamp (show c < 2 ^ 31 by omega), e9]) (nm_r (nI_1 i) (ih d m (i + 1) g hd' (by omega) (by omega) hm hp' h))⟩
    · rw [if_neg (by omega)] at h
      exact ⟨pk_in c 11 hc, nm_r (by rw [nI_clamp (show c < 2 ^ 31 by omega), e9]) (nm_r (nI_1 i) (ih d v (i + 1) g hd' (by omega) (by omega) b8 hp' h))⟩
theorem ct_w39 {post : Int32 → St2 → Prop} {J : Int32 → Int32 → Int32 → (Nat → Int32) → (Nat → Int32) → (Nat → Int32) → (Nat → Int32) → (Nat → Int32) → (Nat → Int32) → (Nat → Int32) → (Nat → Int32) → (Nat → Int32) → (Nat → Int32) → Prop} {x1 x2 q : Int32} {f : Nat} {a1 a2 a3 a4 a5 a6 a7 : Nat → Int32} {a9 a10 : Nat → Int32} {r l' : List (Nat × Nat)} (hE : ct_E r a9)
    (H : ∀ a8, ct_R l' a8 → wX_fill_106 post J x1 x2 (nI f) q a1 a2 a3 a4 a5 a6 a7 a8 a9 a10 ) :
    ∀ (t : List Nat) (c i n : Nat) (l : List (Nat × Nat)) (a8 : Nat → Int32), c < 11 → i + t.length ≤ 11 → t.length < n → ct_pth r c t = true → ct_ok f l c t → ct_ag f l c t = l' → ct_R l a8 → wX_fill_39 post J x1 x2 (nI f) q n (nI c) (nI i) a1 a2 a3 a4 a5 a6 a7 a8 a9 a10 := by
  intro t
  induction t with
  | nil =>
    intro c i n l a8 hc hi hn hp _ ha hR
    obtain ⟨g, rfl⟩ : ∃ g, n = g + 1 := ⟨n - 1, by omega⟩
    rw [ct_pth, decide_eq_true_eq] at hp
    rw [ct_ag] at ha
    subst hp ha
    exact br_c (fun _ => H a8 hR) (fun _ => br_t rfl (H a8 hR))
  | cons d t ih =>
    intro c i n l a8 hc hi hn hp ho ha hR
    rw [List.length_cons] at hi hn
    obtain ⟨g, rfl⟩ : ∃ g, n = g + 1 := ⟨n - 1, by omega⟩
    obtain ⟨⟨h9, hd, hd'⟩, hp'⟩ := ct_pc hp
    have e9 : a9 c = nI d := by rw [hE c hc, hd, ct_e1 hd']
    rw [ct_ok] at ho
    obtain ⟨⟨o1, o2⟩, ho'⟩ := ho
    rw [ct_ag] at ha
    obtain ⟨e8, b8⟩ := hR (11 * d + c) (by omega)
    have R1 : ct_R (ct_a1 f l c d) (upd a8 (11 * d + c) (nI (ct_ch 0 l (11 * d + c)) - nI f)) := ct_Rc hR (pk_sub o1) (by omega)
    obtain ⟨e7, b7⟩ := R1 (11 * c + d) (by omega)
    refine pk_le 11 i (fun z => absurd z (by omega)) (fun _ => pk_eq c 9 (fun z => absurd z h9) (fun _ => ⟨pk_in c 11 hc, nm_r (by rw [nI_clamp (show c < 2 ^ 31 by omega), e9]) ?_⟩))
    rw [ct_ix, ct_ix, nI_clamp (show 11 * d + c < 2 ^ 31 by omega), nI_clamp (show 11 * c + d < 2 ^ 31 by omega), e8]
    refine ⟨pk_in (11 * d + c) 121 (by omega), pk_in (11 * d + c) 121 (by omega), nm_e ⟨pk_in (11 * c + d) 121 (by omega), pk_in (11 * c + d) 121 (by omega), nm_e (nm_r (nI_1 i) ?_)⟩⟩
    rw [e7]
    exact ih d (i + 1) g (ct_a2 f l c d) _ hd' (by omega) (by omega) hp' ho' ha (ct_Rc R1 (nI_add _ _) o2)
/-- the loop over ways ends -/
theorem ct_stop {post : Int32 → St2 → Prop} {n w : Nat} {x q : Int32} {a1 a2 a3 a4 a5 a6 a7 a8 a9 a10 : Nat → Int32} {r : List (Nat × Nat)} (hE : ct_E r a9) (h : ¬ ct_ch 11 r 10 < 11) (H : post x (q, a1, a2, a3, a4, a5, a6, a7, a8, a9, a10)) :
    wX_fill_10 post (n + 1) x (nI w) q a1 a2 a3 a4 a5 a6 a7 a8 a9 a10 := by
  have e := hE 10 (by omega)
  refine br_c (fun _ => H) (fun _ => br_t ?_ H)
  rw [e]
  exact ct_e6 h
/-- one way -/
theorem ct_step {post : Int32 → St2 → Prop} {n w t f : Nat} {q : Int32} {a1 a2 a3 a4 a5 a6 a7 a8 a9 a10 : Nat → Int32} {r l l' : List (Nat × Nat)} {F : List (Nat × Nat) → Bool} (way : List Nat) (hw : w < 1000) (hR : ct_R l a8) (hE : ct_E r a9) (hr : ct_ch 11 r 10 < 11)
    (hlen : way.length ≤ 11) (hp : ct_pth r 10 way = true) (hf : ct_mn l 10 way 1000000 = f) (ho : ct_ok f l 10 way) (ha : ∀ j, ct_ch 0 (ct_ag f l 10 way) j = ct_ch 0 l' j) (hc : ct_chk (ct_b l') 9 F = true)
    (H : ∀ (r : List (Nat × Nat)) (q : Int32) (a8 a9 a10 : Nat → Int32), F r = true → ct_R l' a8 → ct_E r a9 → wX_fill_10 post n (nI (t + f)) (nI (w + 1)) q a1 a2 a3 a4 a5 a6 a7 a8 a9 a10) :
    wX_fill_10 post (n + 1) (nI t) (nI w) q a1 a2 a3 a4 a5 a6 a7 a8 a9 a10 := by
  have e := hE 10 (by omega)
  refine pk_le 1000 w (fun z => absurd z (by omega)) (fun _ => br_f (by rw [e]; exact ct_e5 hr) ?_)
  refine ⟨12, ct_nar hR hE way 10 1000000 0 12 (by omega) (by omega) (by omega) (by omega) hp ?_⟩
  rw [hf]
  refine ⟨12, ct_w39 hE (fun b8 hb => ?_) way 10 0 12 l a8 (by omega) (by omega) (by omega) hp ho rfl hR⟩
  exact nm_r (nI_add t f) (ct_srch (s := 9) (by omega) (ct_Rn hb ha) hc (fun r q a9 a10 hF hE => nm_r (nI_1 w) (H r q b8 a9 a10 hF (ct_Rn hb ha) hE)))
/-- the first search of fill -/
theorem ct_fill {post : Int32 → St2 → Prop} {q : Int32} {a1 a2 a3 a4 a5 a6 a7 a8 a9 a10 : Nat → Int32} {l : List (Nat × Nat)} {F : List (Nat × Nat) → Bool} (hR : ct_R l a8) (hc : ct_chk (ct_b l) 9 F = true)
    (H : ∀ (r : List (Nat × Nat)) (q : Int32) (a9 a10 : Nat → Int32), F r = true → ct_E r a9 → ∃ n, wX_fill_10 post n (nI 0) (nI 0) q a1 a2 a3 a4 a5 a6 a7 a8 a9 a10) : wpX_fill post (q, a1, a2, a3, a4, a5, a6, a7, a8, a9, a10) := by
  unfold wpX_fill
  exact ct_srch (s := 9) (by omega) hR hc (fun r q a9 a10 hF hE => H r q a9 a10 hF hE)
end
section
/-- the network: 9-3-2-1-0-10 is the way, then the lines back -/
def ct_N (b z y x a u v p1 p2 p3 : Nat) (E : List (Nat × Nat)) : List (Nat × Nat) := (102, b) :: (35, z) :: (23, y) :: (11, x) :: (10, a) :: (1, u) :: (25, v) :: (13, p1) :: (42, p2) :: (110, p3) :: E
def ct_NB (b z y x a u v p1 p2 p3 : Bool) (E : List (Nat × Bool)) : List (Nat × Bool) := (102, b) :: (35, z) :: (23, y) :: (11, x) :: (10, a) :: (1, u) :: (25, v) :: (13, p1) :: (42, p2) :: (110, p3) :: E
theorem ct_bN (b z y x a u v p1 p2 p3 : Nat) (E : List (Nat × Nat)) : ct_b (ct_N b z y x a u v p1 p2 p3 E) = ct_NB (decide (0 < b)) (decide (0 < z)) (decide (0 < y)) (decide (0 < x)) (decide (0 < a)) (decide (0 < u)) (decide (0 < v)) (decide (0 < p1)) (decide (0 < p2)) (decide (0 < p3)) (ct_b E) := rfl
theorem ct_cc {α : Type} {d v : α} {k j : Nat} {t l : List (Nat × α)} (h : j = k → v = ct_ch d l k) (h' : j ≠ k → ct_ch d t j = ct_ch d l j) : ct_ch d ((k, v) :: t) j = ct_ch d l j := by
  rw [ct_chc]
  by_cases e : j = k
  · rw [if_pos e, h e, e]
  · rw [if_neg e, h' e]
theorem ct_Nn {b z y x a u v p1 p2 p3 j : Nat} {E : List (Nat × Nat)} (n102 : j ≠ 102) (n35 : j ≠ 35) (n23 : j ≠ 23) (n11 : j ≠ 11) (n10 : j ≠ 10) (n1 : j ≠ 1) (n25 : j ≠ 25) (n13 : j ≠ 13) (n42 : j ≠ 42) (n110 : j ≠ 110) :
    ct_ch 0 (ct_N b z y x a u v p1 p2 p3 E) j = ct_ch 0 E j := by
  unfold ct_N
  rw [ct_chc, if_neg n102, ct_chc, if_neg n35, ct_chc, if_neg n23, ct_chc, if_neg n11, ct_chc, if_neg n10, ct_chc, if_neg n1, ct_chc, if_neg n25, ct_chc, if_neg n13, ct_chc, if_neg n42, ct_chc, if_neg n110]
/-- a line that the way hasn't -/
theorem ct_mv {b z y x a u v p1 p2 p3 k w : Nat} {E : List (Nat × Nat)} (hk : k ≠ 102 ∧ k ≠ 35 ∧ k ≠ 23 ∧ k ≠ 11 ∧ k ≠ 10 ∧ k ≠ 1 ∧ k ≠ 25 ∧ k ≠ 13 ∧ k ≠ 42 ∧ k ≠ 110) (j : Nat) :
    ct_ch 0 ((k, w) :: ct_N b z y x a u v p1 p2 p3 E) j = ct_ch 0 (ct_N b z y x a u v p1 p2 p3 ((k, w) :: E)) j := by
  obtain ⟨h1, h2, h3, h4, h5, h6, h7, h8, h9, h10⟩ := hk
  refine ct_cc (fun _ => ?_) (fun n => ?_)
  · rw [ct_Nn h1 h2 h3 h4 h5 h6 h7 h8 h9 h10, ct_chc, if_pos rfl]
  · simp only [ct_N, ct_chc, if_neg n]
theorem ct_m10 {b z y x a u v p1 p2 p3 w : Nat} {E : List (Nat × Nat)} (j : Nat) : ct_ch 0 ((10, w) :: ct_N b z y x a u v p1 p2 p3 E) j = ct_ch 0 (ct_N b z y x w u v p1 p2 p3 E) j := by
  refine ct_cc (fun _ => rfl) (fun n => ?_)
  simp only [ct_N, ct_chc, if_neg n]
theorem ct_m102 {b z y x a u v p1 p2 p3 w : Nat} {E : List (Nat × Nat)} (j : Nat) : ct_ch 0 ((102, w) :: ct_N b z y x a u v p1 p2 p3 E) j = ct_ch 0 (ct_N w z y x a u v p1 p2 p3 E) j := by
  refine ct_cc (fun _ => rfl) (fun n => ?_)
  simp only [ct_N, ct_chc, if_neg n]
def ct_F0 (r : List (Nat × Nat)) : Bool := decide (¬ ct_ch 11 r 10 < 11)
def ct_F5 (r : List (Nat × Nat)) : Bool := ct_pth r 10 [0, 1, 2, 3, 9]
def ct_F1 (r : List (Nat × Nat)) : Bool := ct_pth r 10 [0, 9]
def ct_F3 (r : List (Nat × Nat)) : Bool := ct_pth r 10 [3, 9]
/-- over the lines beside the way: the whole way is found, a broken one isn't -/
def ct_Y (E : List (Nat × Bool)) : Prop := ct_chk (ct_NB true true true true true true true false false false E) 9 ct_F5 = true ∧
  ∀ b1 b2 b3 b4 b5 r : Bool, (b1 && b2 && b3 && b4 && b5) = false → ct_chk (ct_NB b1 b2 b3 b4 b5 true true r r r E) 9 ct_F0 = true
theorem ct_Y0 : ct_Y [] := And.intro (by decide +kernel) (by decide +kernel)
theorem ct_Ya : ct_Y (ct_b [(65, 1000000), (103, 1000000)]) := And.intro (by decide +kernel) (by decide +kernel)
theorem ct_Yb : ct_Y (ct_b [(104, 1000000), (54, 1000000)]) := And.intro (by decide +kernel) (by decide +kernel)
theorem ct_k1 : ∀ b2 b3 b4 : Bool, ct_chk (ct_NB true b2 b3 b4 true true true false false false [(99, true)]) 9 ct_F1 = true := by decide +kernel
theorem ct_k2 : ∀ b2 b3 b4 : Bool, ct_chk (ct_NB true b2 b3 b4 false true true false false true [(99, true), (9, true)]) 9 ct_F0 = true := by decide +kernel
theorem ct_k3 : ∀ b2 b3 b4 : Bool, ct_chk (ct_NB true b2 b3 b4 true true true false false false [(43, true)]) 9 ct_F3 = true := by decide +kernel
theorem ct_k4 : ∀ b2 b3 b4 : Bool, ct_chk (ct_NB false b2 b3 b4 true true true false true false [(43, true), (113, true)]) 9 ct_F0 = true := by decide +kernel
theorem ct_k5 : ∀ b2 b3 b4 : Bool, ct_chk (ct_NB true b2 b3 b4 true true true false false false [(43, true), (99, true)]) 9 ct_F1 = true := by decide +kernel
theorem ct_k6 : ∀ b2 b3 b4 : Bool, ct_chk (ct_NB true b2 b3 b4 false true true false false true [(99, true), (9, true), (43, true)]) 9 ct_F3 = true := by decide +kernel
theorem ct_k7 : ∀ b2 b3 b4 : Bool, ct_chk (ct_NB false b2 b3 b4 false true true false true true [(99, true), (9, true), (43, true), (113, true)]) 9 ct_F0 = true := by decide +kernel
theorem ct_5 {n1 n2 n3 n4 n5 : Nat} (h : n1 = 0 ∨ n2 = 0 ∨ n3 = 0 ∨ n4 = 0 ∨ n5 = 0) : (decide (0 < n1) && decide (0 < n2) && decide (0 < n3) && decide (0 < n4) && decide (0 < n5)) = false := by
  rcases h with h | h | h | h | h <;> simp [h]
theorem ct_dt {n : Nat} (h : 0 < n) : decide (0 < n) = true := decide_eq_true h
/-- fill over the way: the least room -/
theorem ct_fillP {post : Int32 → St2 → Prop} {q : Int32} {a1 a2 a3 a4 a5 a6 a7 a8 a9 a10 : Nat → Int32} {E : List (Nat × Nat)} {b z y x a m : Nat} (hY : ct_Y (ct_b E)) (hR : ct_R (ct_N b z y x a 9 50 0 0 0 E) a8)
    (hm : m ≤ b ∧ m ≤ z ∧ m ≤ y ∧ m ≤ x ∧ m ≤ a) (he : m = b ∨ m = z ∨ m = y ∨ m = x ∨ m = a) (hK : m ≤ 1000000)
    (H : ∀ (q : Int32) (a8 a9 a10 : Nat → Int32), ct_R (ct_N (b - m) (z - m) (y - m) (x - m) (a - m) (9 + m) (50 + m) m m m E) a8 → post (nI m) (q, a1, a2, a3, a4, a5, a6, a7, a8, a9, a10)) : wpX_fill post (q, a1, a2, a3, a4, a5, a6, a7, a8, a9, a10) := by
  obtain ⟨y1, y2⟩ := hY
  by_cases h0 : m = 0
  · subst h0
    refine ct_fill (F := ct_F0) hR ?_ (fun r q a9 a10 hF hE => ⟨1, ct_stop (w := 0) hE (of_decide_eq_true hF) (H q a8 a9 a10 hR)⟩)
    rw [ct_bN]
    exact y2 _ _ _ _ _ _ (ct_5 (by omega))
  · refine ct_fill (F := ct_F5) hR ?_ (fun r q a9 a10 hF hE => ⟨2, ?_⟩)
    · rw [ct_bN, ct_dt (show 0 < b by omega), ct_dt (show 0 < z by omega), ct_dt (show 0 < y by omega), ct_dt (show 0 < x by omega), ct_dt (show 0 < a by omega)]
      exact y1
    · refine ct_step (t := 0) (w := 0) (f := m) (l' := ct_N (b - m) (z - m) (y - m) (x - m) (a - m) (9 + m) (50 + m) m m m E) (F := ct_F0) [0, 1, 2, 3, 9] (by omega) hR hE ?_ (by decide) hF ?_ ?_ ?_ ?_ (fun r q a8 a9 a10 hF hR hE => ct_stop (w := 0 + 1) hE (of_decide_eq_true hF) ?_)
      · rw [(ct_pc hF).1.2.1]
        omega
      · rw [ct_mn, ct_mn, ct_mn, ct_mn, ct_mn, ct_mn]
        rw [show ct_ch 0 (ct_N b z y x a 9 50 0 0 0 E) (11 * 0 + 10) = a from rfl, show ct_ch 0 (ct_N b z y x a 9 50 0 0 0 E) (11 * 1 + 0) = x from rfl, show ct_ch 0 (ct_N b z y x a 9 50 0 0 0 E) (11 * 2 + 1) = y from rfl, show ct_ch 0 (ct_N b z y x a 9 50 0 0 0 E) (11 * 3 + 2) = z from rfl, show ct_ch 0 (ct_N b z y x a 9 50 0 0 0 E) (11 * 9 + 3) = b from rfl]
        (repeat' split) <;> omega
      · exact And.intro (And.intro (show m ≤ a by omega) (show 0 + m < 2 ^ 31 by omega)) (And.intro (And.intro (show m ≤ x by omega) (show 9 + m < 2 ^ 31 by omega)) (And.intro (And.intro (show m ≤ y by omega) (show 0 + m < 2 ^ 31 by omega)) (And.intro (And.intro (show m ≤ z by omega) (show 50 + m < 2 ^ 31 by omega)) (And.intro (And.intro (show m ≤ b by omega) (show 0 + m < 2 ^ 31 by omega)) trivial))))
      · intro j
        show ct_ch 0 ((42, 0 + m) :: (102, b - m) :: (25, 50 + m) :: (35, z - m) :: (13, 0 + m) :: (23, y - m) :: (1, 9 + m) :: (11, x - m) :: (110, 0 + m) :: (10, a - m) :: ct_N b z y x a 9 50 0 0 0 E) j = _
        refine ct_cc (fun _ => Nat.zero_add m) (fun n42 => ct_cc (fun _ => rfl) (fun n102 => ct_cc (fun _ => rfl) (fun n25 => ct_cc (fun _ => rfl) (fun n35 => ct_cc (fun _ => Nat.zero_add m) (fun n13 => ?_)))))
        refine ct_cc (fun _ => rfl) (fun n23 => ct_cc (fun _ => rfl) (fun n1 => ct_cc (fun _ => rfl) (fun n11 => ct_cc (fun _ => Nat.zero_add m) (fun n110 => ct_cc (fun _ => rfl) (fun n10 => ?_)))))
        rw [ct_Nn n102 n35 n23 n11 n10 n1 n25 n13 n42 n110, ct_Nn n102 n35 n23 n11 n10 n1 n25 n13 n42 n110]
      · rw [ct_bN, ct_dt (show 0 < 9 + m by omega), ct_dt (show 0 < 50 + m by omega)]
        exact y2 _ _ _ _ _ _ (ct_5 (by omega))
      · rw [Nat.zero_add]
        exact H q a8 a9 a10 hR
/-- place 0 forced to label 0: a -/
theorem ct_fill1 {post : Int32 → St2 → Prop} {q : Int32} {a1 a2 a3 a4 a5 a6 a7 a8 a9 a10 : Nat → Int32} {b z y x a : Nat} (hR : ct_R (ct_N b z y x a 9 50 0 0 0 [(99, 1000000)]) a8) (ha : 0 < a ∧ a ≤ 100) (hb : 0 < b ∧ b ≤ 100)
    (H : ∀ (q : Int32) (a8 a9 a10 : Nat → Int32), post (nI a) (q, a1, a2, a3, a4, a5, a6, a7, a8, a9, a10)) : wpX_fill post (q, a1, a2, a3, a4, a5, a6, a7, a8, a9, a10) := by
  refine ct_fill (F := ct_F1) hR ?_ (fun r q a9 a10 hF hE => ⟨2, ?_⟩)
  · rw [ct_bN, ct_dt hb.1, ct_dt ha.1]
    exact ct_k1 _ _ _
  · refine ct_step (t := 0) (w := 0) (f := a) (l' := ct_N b z y x 0 9 50 0 0 a [(99, 1000000 - a), (9, a)]) (F := ct_F0) [0, 9] (by omega) hR hE ?_ (by decide) hF ?_ ?_ ?_ ?_ (fun r q a8 a9 a10 hF hR hE => ct_stop (w := 0 + 1) hE (of_decide_eq_true hF) ?_)
    · rw [(ct_pc hF).1.2.1]
      omega
    · rw [ct_mn, ct_mn, ct_mn]
      rw [show ct_ch 0 (ct_N b z y x a 9 50 0 0 0 [(99, 1000000)]) (11 * 0 + 10) = a from rfl, show ct_ch 0 (ct_N b z y x a 9 50 0 0 0 [(99, 1000000)]) (11 * 9 + 0) = 1000000 from rfl]
      (repeat' split) <;> omega
    · exact And.intro (And.intro (show a ≤ a by omega) (show 0 + a < 2 ^ 31 by omega)) (And.intro (And.intro (show a ≤ 1000000 by omega) (show 0 + a < 2 ^ 31 by omega)) trivial)
    · intro j
      show ct_ch 0 ((9, 0 + a) :: (99, 1000000 - a) :: (110, 0 + a) :: (10, a - a) :: ct_N b z y x a 9 50 0 0 0 [(99, 1000000)]) j = _
      refine ct_cc (fun _ => Nat.zero_add a) (fun n9 => ct_cc (fun _ => rfl) (fun n99 => ct_cc (fun _ => Nat.zero_add a) (fun n110 => ct_cc (fun _ => Nat.sub_self a) (fun n10 => ?_))))
      simp only [ct_N, ct_chc, if_neg n9, if_neg n99, if_neg n110, if_neg n10]
    · rw [ct_bN, ct_dt hb.1, ct_dt ha.1, show ct_b [(99, 1000000 - a), (9, a)] = [(99, decide (0 < 1000000 - a)), (9, decide (0 < a))] from rfl, ct_dt ha.1, ct_dt (show 0 < 1000000 - a by omega)]
      exact ct_k2 _ _ _
    · rw [Nat.zero_add]
      exact H q a8 a9 a10
/-- place 3 forced to label 1: b -/
theorem ct_fill3 {post : Int32 → St2 → Prop} {q : Int32} {a1 a2 a3 a4 a5 a6 a7 a8 a9 a10 : Nat → Int32} {b z y x a : Nat} (hR : ct_R (ct_N b z y x a 9 50 0 0 0 [(43, 1000000)]) a8) (ha : 0 < a ∧ a ≤ 100) (hb : 0 < b ∧ b ≤ 100)
    (H : ∀ (q : Int32) (a8 a9 a10 : Nat → Int32), post (nI b) (q, a1, a2, a3, a4, a5, a6, a7, a8, a9, a10)) : wpX_fill post (q, a1, a2, a3, a4, a5, a6, a7, a8, a9, a10) := by
  refine ct_fill (F := ct_F3) hR ?_ (fun r q a9 a10 hF hE => ⟨2, ?_⟩)
  · rw [ct_bN, ct_dt hb.1, ct_dt ha.1]
    exact ct_k3 _ _ _
  · refine ct_step (t := 0) (w := 0) (f := b) (l' := ct_N 0 z y x a 9 50 0 b 0 [(43, 1000000 - b), (113, b)]) (F := ct_F0) [3, 9] (by omega) hR hE ?_ (by decide) hF ?_ ?_ ?_ ?_ (fun r q a8 a9 a10 hF hR hE => ct_stop (w := 0 + 1) hE (of_decide_eq_true hF) ?_)
    · rw [(ct_pc hF).1.2.1]
      omega
    · rw [ct_mn, ct_mn, ct_mn]
      rw [show ct_ch 0 (ct_N b z y x a 9 50 0 0 0 [(43, 1000000)]) (11 * 3 + 10) = 1000000 from rfl, show ct_ch 0 (ct_N b z y x a 9 50 0 0 0 [(43, 1000000)]) (11 * 9 + 3) = b from rfl]
      (repeat' split) <;> omega
    · exact And.intro (And.intro (show b ≤ 1000000 by omega) (show 0 + b < 2 ^ 31 by omega)) (And.intro (And.intro (show b ≤ b by omega) (show 0 + b < 2 ^ 31 by omega)) trivial)
    · intro j
      show ct_ch 0 ((42, 0 + b) :: (102, b - b) :: (113, 0 + b) :: (43, 1000000 - b) :: ct_N b z y x a 9 50 0 0 0 [(43, 1000000)]) j = _
      refine ct_cc (fun _ => Nat.zero_add b) (fun n42 => ct_cc (fun _ => Nat.sub_self b) (fun n102 => ct_cc (fun _ => Nat.zero_add b) (fun n113 => ct_cc (fun _ => rfl) (fun n43 => ?_))))
      simp only [ct_N, ct_chc, if_neg n42, if_neg n102, if_neg n113, if_neg n43]
    · rw [ct_bN, ct_dt hb.1, ct_dt ha.1, show ct_b [(43, 1000000 - b), (113, b)] = [(43, decide (0 < 1000000 - b)), (113, decide (0 < b))] from rfl, ct_dt hb.1, ct_dt (show 0 < 1000000 - b by omega)]
      exact ct_k4 _ _ _
    · rw [Nat.zero_add]
      exact H q a8 a9 a10
/-- place 0 forced to 0 and place 3 to 1: a + b -/
theorem ct_fill13 {post : Int32 → St2 → Prop} {q : Int32} {a1 a2 a3 a4 a5 a6 a7 a8 a9 a10 : Nat → Int32} {b z y x a : Nat} (hR : ct_R (ct_N b z y x a 9 50 0 0 0 [(43, 1000000), (99, 1000000)]) a8) (ha : 0 < a ∧ a ≤ 100) (hb : 0 < b ∧ b ≤ 100)
    (H : ∀ (q : Int32) (a8 a9 a10 : Nat → Int32), post (nI (a + b)) (q, a1, a2, a3, a4, a5, a6, a7, a8, a9, a10)) : wpX_fill post (q, a1, a2, a3, a4, a5, a6, a7, a8, a9, a10) := by
  refine ct_fill (F := ct_F1) hR ?_ (fun r q a9 a10 hF hE => ⟨3, ?_⟩)
  · rw [ct_bN, ct_dt hb.1, ct_dt ha.1]
    exact ct_k5 _ _ _
  · refine ct_step (t := 0) (w := 0) (f := a) (l' := ct_N b z y x 0 9 50 0 0 a [(99, 1000000 - a), (9, a), (43, 1000000)]) (F := ct_F3) [0, 9] (by omega) hR hE ?_ (by decide) hF ?_ ?_ ?_ ?_ (fun r q a8 a9 a10 hF hR hE => ?_)
    · rw [(ct_pc hF).1.2.1]
      omega
    · rw [ct_mn, ct_mn, ct_mn]
      rw [show ct_ch 0 (ct_N b z y x a 9 50 0 0 0 [(43, 1000000), (99, 1000000)]) (11 * 0 + 10) = a from rfl, show ct_ch 0 (ct_N b z y x a 9 50 0 0 0 [(43, 1000000), (99, 1000000)]) (11 * 9 + 0) = 1000000 from rfl]
      (repeat' split) <;> omega
    · exact And.intro (And.intro (show a ≤ a by omega) (show 0 + a < 2 ^ 31 by omega)) (And.intro (And.intro (show a ≤ 1000000 by omega) (show 0 + a < 2 ^ 31 by omega)) trivial)
    · intro j
      show ct_ch 0 ((9, 0 + a) :: (99, 1000000 - a) :: (110, 0 + a) :: (10, a - a) :: ct_N b z y x a 9 50 0 0 0 [(43, 1000000), (99, 1000000)]) j = _
      refine ct_cc (fun _ => Nat.zero_add a) (fun n9 => ct_cc (fun _ => rfl) (fun n99 => ct_cc (fun _ => Nat.zero_add a) (fun n110 => ct_cc (fun _ => Nat.sub_self a) (fun n10 => ?_))))
      simp only [ct_N, ct_chc, if_neg n9, if_neg n99, if_neg n110, if_neg n10]
    · rw [ct_bN, ct_dt hb.1, ct_dt ha.1, show ct_b [(99, 1000000 - a), (9, a), (43, 1000000)] = [(99, decide (0 < 1000000 - a)), (9, decide (0 < a)), (43, true)] from rfl, ct_dt ha.1, ct_dt (show 0 < 1000000 - a by omega)]
      exact ct_k6 _ _ _
    · refine ct_step (t := 0 + a) (w := 0 + 1) (f := b) (l' := ct_N 0 z y x 0 9 50 0 b a [(99, 1000000 - a), (9, a), (43, 1000000 - b), (113, b)]) (F := ct_F0) [3, 9] (by omega) hR hE ?_ (by decide) hF ?_ ?_ ?_ ?_ (fun r q a8 a9 a10 hF hR hE => ct_stop (w := 0 + 1 + 1) hE (of_decide_eq_true hF) ?_)
      · rw [(ct_pc hF).1.2.1]
        omega
      · rw [ct_mn, ct_mn, ct_mn]
        rw [show ct_ch 0 (ct_N b z y x 0 9 50 0 0 a [(99, 1000000 - a), (9, a), (43, 1000000)]) (11 * 3 + 10) = 1000000 from rfl, show ct_ch 0 (ct_N b z y x 0 9 50 0 0 a [(99, 1000000 - a), (9, a), (43, 1000000)]) (11 * 9 + 3) = b from rfl]
        (repeat' split) <;> omega
      · exact And.intro (And.intro (show b ≤ 1000000 by omega) (show 0 + b < 2 ^ 31 by omega)) (And.intro (And.intro (show b ≤ b by omega) (show 0 + b < 2 ^ 31 by omega)) trivial)
      · intro j
        show ct_ch 0 ((42, 0 + b) :: (102, b - b) :: (113, 0 + b) :: (43, 1000000 - b) :: ct_N b z y x 0 9 50 0 0 a [(99, 1000000 - a), (9, a), (43, 1000000)]) j = _
        refine ct_cc (fun _ => Nat.zero_add b) (fun n42 => ct_cc (fun _ => Nat.sub_self b) (fun n102 => ct_cc (fun _ => Nat.zero_add b) (fun n113 => ct_cc (fun _ => rfl) (fun n43 => ?_))))
        simp only [ct_N, ct_chc, if_neg n42, if_neg n102, if_neg n113, if_neg n43]
      · rw [ct_bN, ct_dt hb.1, ct_dt ha.1, show ct_b [(99, 1000000 - a), (9, a), (43, 1000000 - b), (113, b)] = [(99, decide (0 < 1000000 - a)), (9, decide (0 < a)), (43, decide (0 < 1000000 - b)), (113, decide (0 < b))] from rfl, ct_dt ha.1, ct_dt hb.1, ct_dt (show 0 < 1000000 - a by omega), ct_dt (show 0 < 1000000 - b by omega)]
        exact ct_k7 _ _ _
      · rw [Nat.zero_add]
        exact H q a8 a9 a10
end
section
/-- what costs and ties stand: place 0 costs a at 0, place 3 costs b at 1, ties 0, 7 and (tb = 1) 15 -/
def ct_S (a b x y z tb : Nat) (a1 a2 a3 a4 a5 a6 a7 : Nat → Int32) : Prop :=
  (∀ j, j < 9 → a1 j = nI (ct_ch 0 [(0, a)] j)) ∧ (∀ j, j < 9 → a2 j = nI (ct_ch 0 [(3, b)] j)) ∧ (∀ j, j < 16 → a3 j = nI (ct_ch 0 [(0, 1), (7, 1), (15, tb)] j)) ∧
  (∀ j, j < 16 → a4 j = nI (ct_ch 0 [(15, 1), (7, 3)] j)) ∧ (∀ j, j < 16 → a5 j = nI (ct_ch 0 [(0, 1), (15, 2), (7, 2)] j)) ∧ (∀ j, j < 16 → a6 j = nI (ct_ch 0 [(0, 9), (7, z)] j)) ∧ (∀ j, j < 16 → a7 j = nI (ct_ch 0 [(0, x), (15, y), (7, 50)] j))
theorem ct_skip {post : St2 → Prop} {q : Int32} {a1 a2 a3 a4 a5 a6 a7 a8 a9 a10 : Nat → Int32} : ∀ (d t f : Nat), (∀ j, t ≤ j → j < t + d → a3 j = 0) → t + d ≤ 16 → wX_build_70 post q f (nI (t + d)) a1 a2 a3 a4 a5 a6 a7 a8 a9 a10 → wX_build_70 post q (f + d) (nI t) a1 a2 a3 a4 a5 a6 a7 a8 a9 a10 := by
  intro d
  induction d with
  | zero => intro t f _ _ H; exact H
  | succ d ih =>
    intro t f h ht H
    refine pk_le 16 t (fun z => absurd z (by omega)) (fun _ => ⟨pk_in t 16 (by omega), br_t (by rw [nI_clamp (show t < 2 ^ 31 by omega)]; exact h t (by omega) (by omega)) (nm_r (nI_1 t) (ih (t + 1) f (fun j h1 h2 => h j (by omega) (by omega)) (by omega) ?_))⟩)
    rw [show t + 1 + d = t + (d + 1) by omega]
    exact H
theorem ct_do {post : St2 → Prop} {q : Int32} {n : Nat} {a1 a2 a3 a4 a5 a6 a7 a8 a9 a10 : Nat → Int32} {l : List (Nat × Nat)} (t i k u v : Nat) (ht : t < 16) (hi : i < 11) (hk : k < 11) (h3 : a3 t = nI 1) (h4 : a4 t = nI i) (h5 : a5 t = nI k) (h6 : a6 t = nI u) (h7 : a7 t = nI v) (hR : ct_R l a8)
    (b1 : ct_ch 0 l (11 * i + k) + u < 2 ^ 31) (b2 : ct_ch 0 ((11 * i + k, ct_ch 0 l (11 * i + k) + u) :: l) (11 * k + i) + v < 2 ^ 31)
    (H : ∀ a8, ct_R ((11 * k + i, ct_ch 0 ((11 * i + k, ct_ch 0 l (11 * i + k) + u) :: l) (11 * k + i) + v) :: (11 * i + k, ct_ch 0 l (11 * i + k) + u) :: l) a8 → wX_build_70 post q n (nI (t + 1)) a1 a2 a3 a4 a5 a6 a7 a8 a9 a10) :
    wX_build_70 post q (n + 1) (nI t) a1 a2 a3 a4 a5 a6 a7 a8 a9 a10 := by
  obtain ⟨e8, _⟩ := hR (11 * i + k) (by omega)
  have R1 := ct_Rc (k := 11 * i + k) hR (nI_add (ct_ch 0 l (11 * i + k)) u) b1
  obtain ⟨e7, _⟩ := R1 (11 * k + i) (by omega)
  refine pk_le 16 t (fun z => absurd z (by omega)) (fun _ => ⟨pk_in t 16 ht, ?_⟩)
  rw [nI_clamp (show t < 2 ^ 31 by omega), h3, h4, h5, h6, h7, ct_ix i k, ct_ix k i, nI_clamp (show 11 * i + k < 2 ^ 31 by omega), nI_clamp (show 11 * k + i < 2 ^ 31 by omega), e8]
  refine br_f (by decide) ⟨pk_in t 16 ht, pk_in t 16 ht, pk_in (11 * i + k) 121 (by omega), pk_in t 16 ht, pk_in (11 * i + k) 121 (by omega), nm_e ⟨pk_in t 16 ht, pk_in t 16 ht, pk_in (11 * k + i) 121 (by omega), pk_in t 16 ht, pk_in (11 * k + i) 121 (by omega), nm_e (nm_r (nI_1 t) ?_)⟩⟩
  rw [e7]
  exact H _ (ct_Rc R1 (nI_add _ _) b2)
def ct_C (c1 c2 : Nat → Nat) : Nat → List (Nat × Nat)
  | 0 => []
  | i + 1 => (11 * i + 10, c1 i) :: (99 + i, c2 i) :: ct_C c1 c2 i
theorem ct_C9 {a b : Nat} (j : Nat) : ct_ch 0 (ct_C (ct_ch 0 [(0, a)]) (ct_ch 0 [(3, b)]) 9) j = ct_ch 0 [(102, b), (10, a)] j := by
  show ct_ch 0 ((98, 0) :: (107, 0) :: (87, 0) :: (106, 0) :: (76, 0) :: (105, 0) :: (65, 0) :: (104, 0) :: (54, 0) :: (103, 0) :: (43, 0) :: (102, b) :: (32, 0) :: (101, 0) :: (21, 0) :: (100, 0) :: (10, a) :: (99, 0) :: []) j = _
  refine ct_cc (fun _ => rfl) (fun _ => ct_cc (fun _ => rfl) (fun _ => ct_cc (fun _ => rfl) (fun _ => ct_cc (fun _ => rfl) (fun _ => ct_cc (fun _ => rfl) (fun _ => ct_cc (fun _ => rfl) (fun _ => ?_))))))
  refine ct_cc (fun _ => rfl) (fun _ => ct_cc (fun _ => rfl) (fun _ => ct_cc (fun _ => rfl) (fun _ => ct_cc (fun _ => rfl) (fun _ => ct_cc (fun _ => rfl) (fun _ => ct_cc (fun _ => rfl) (fun n102 => ?_))))))
  refine ct_cc (fun _ => rfl) (fun _ => ct_cc (fun _ => rfl) (fun _ => ct_cc (fun _ => rfl) (fun _ => ct_cc (fun _ => rfl) (fun _ => ct_cc (fun _ => rfl) (fun n10 => ct_cc (fun _ => rfl) (fun _ => ?_))))))
  rw [ct_chc, if_neg n102, ct_chc, if_neg n10]
theorem ct_w23 {post : St2 → Prop} {q : Int32} {a1 a2 a3 a4 a5 a6 a7 a8 a9 a10 : Nat → Int32} {c1 c2 : Nat → Nat} (h1 : ∀ j, j < 9 → a1 j = nI (c1 j) ∧ c1 j < 2 ^ 31) (h2 : ∀ j, j < 9 → a2 j = nI (c2 j) ∧ c2 j < 2 ^ 31) (hR : ct_R [] a8)
    (H : ∀ a8, ct_R (ct_C c1 c2 9) a8 → ∃ n, wX_build_70 post q n 0 a1 a2 a3 a4 a5 a6 a7 a8 a9 a10) : ∃ n, wX_build_23 post q n 0 a1 a2 a3 a4 a5 a6 a7 a8 a9 a10 := by
  refine pk_loop (fun n i s => wX_build_23 post q n (nI i) a1 a2 a3 a4 a5 a6 a7 s a9 a10) (fun i s => ct_R (ct_C c1 c2 i) s) 9 0 a8 (by omega) hR ?_ ?_
  · intro n s h
    exact pk_le 9 9 (fun _ => H s h) (fun z => absurd z (by omega))
  · intro n i s hi h hw
    obtain ⟨e1, b1⟩ := h1 i hi
    obtain ⟨e2, b2⟩ := h2 i hi
    refine pk_le 9 i (fun z => absurd z (by omega)) (fun _ => ⟨pk_in i 9 hi, ?_⟩)
    rw [nI_clamp (show i < 2 ^ 31 by omega), e1, e2, show (99 : Int32) + nI i = nI (99 + i) from nI_add 99 i, show (11 : Int32) * nI i + 10 = nI (11 * i + 10) from ct_ix i 10, nI_clamp (show 99 + i < 2 ^ 31 by omega), nI_clamp (show 11 * i + 10 < 2 ^ 31 by omega)]
    exact ⟨pk_in (99 + i) 121 (by omega), nm_e ⟨pk_in i 9 hi, pk_in (11 * i + 10) 121 (by omega), nm_e (nm_r (nI_1 i) (hw _ (ct_Rc (ct_Rc h rfl b2) rfl b1)))⟩⟩
theorem ct_w2 {post : St2 → Prop} {q : Int32} {a1 a2 a3 a4 a5 a6 a7 a8 a9 a10 : Nat → Int32} {c1 c2 : Nat → Nat} (h1 : ∀ j, j < 9 → a1 j = nI (c1 j) ∧ c1 j < 2 ^ 31) (h2 : ∀ j, j < 9 → a2 j = nI (c2 j) ∧ c2 j < 2 ^ 31)
    (H : ∀ a8, ct_R (ct_C c1 c2 9) a8 → ∃ n, wX_build_70 post q n 0 a1 a2 a3 a4 a5 a6 a7 a8 a9 a10) : wpX_build post (q, a1, a2, a3, a4, a5, a6, a7, a8, a9, a10) := by
  refine pk_loop (fun n i s => wX_build_2 post q n (nI i) a1 a2 a3 a4 a5 a6 a7 s a9 a10) (fun i s => ∀ j, j < i → s j = 0) 121 0 a8 (by omega) (fun j hj => absurd hj (by omega)) ?_ ?_
  · intro n s h
    have hR : ct_R [] s := fun j hj => ⟨h j hj, by show 0 < 2 ^ 31; omega⟩
    exact pk_le 121 121 (fun _ => ct_w23 h1 h2 hR H) (fun z => absurd z (by omega))
  · intro n i s hi h hw
    exact pk_le 121 i (fun z => absurd z (by omega)) (fun _ => ⟨pk_in i 121 hi, nm_r (by rw [nI_clamp (show i < 2 ^ 31 by omega)]) (nm_r (nI_1 i) (hw _ (ct_fl h)))⟩)
/-- what build gives -/
def ct_B (a b x y z : Nat) (a1 a2 a3 a4 a5 a6 a7 : Nat → Int32) : Prop := ∀ (post : St2 → Prop) (q : Int32) (a8 a9 a10 : Nat → Int32), (∀ a8, ct_R (ct_N b z y x a 9 50 0 0 0 []) a8 → post (q, a1, a2, a3, a4, a5, a6, a7, a8, a9, a10)) → wpX_build post (q, a1, a2, a3, a4, a5, a6, a7, a8, a9, a10)
theorem ct_c1 {a : Nat} (ha : a ≤ 100) (k j : Nat) : ct_ch 0 [(k, a)] j < 2 ^ 31 := by
  rw [ct_chc]
  split
  · omega
  · exact (by decide : (0 : Nat) < 2 ^ 31)
theorem ct_z3 : ∀ j, j < 16 → j ≠ 0 → j ≠ 7 → j ≠ 15 → ∀ tb, ct_ch 0 [(0, 1), (7, 1), (15, tb)] j = 0 := by
  intro j _ h0 h7 h15 tb
  rw [ct_chc, if_neg h0, ct_chc, if_neg h7, ct_chc, if_neg h15]
  rfl
theorem ct_B07 {post : St2 → Prop} {q : Int32} {a1 a2 a3 a4 a5 a6 a7 a8 a9 a10 : Nat → Int32} {a b x y z tb : Nat} (hS : ct_S a b x y z tb a1 a2 a3 a4 a5 a6 a7) (hb : a ≤ 100 ∧ b ≤ 100 ∧ x ≤ 100 ∧ y ≤ 100 ∧ z ≤ 100) {n : Nat}
    (H : ∀ a8, ct_R [(25, 0 + 50), (35, 0 + z), (11, 0 + x), (1, 0 + 9), (102, b), (10, a)] a8 → wX_build_70 post q n (nI 8) a1 a2 a3 a4 a5 a6 a7 a8 a9 a10) : wpX_build post (q, a1, a2, a3, a4, a5, a6, a7, a8, a9, a10) := by
  obtain ⟨s1, s2, s3, s4, s5, s6, s7⟩ := hS
  refine ct_w2 (fun j hj => ⟨s1 j hj, ct_c1 (by omega) 0 j⟩) (fun j hj => ⟨s2 j hj, ct_c1 (by omega) 3 j⟩) (fun b8 hR => ⟨n + 1 + 6 + 1, ?_⟩)
  have R0 := ct_Rn hR ct_C9
  refine ct_do 0 0 1 9 x (by omega) (by omega) (by omega) (s3 0 (by omega)) (s4 0 (by omega)) (s5 0 (by omega)) (s6 0 (by omega)) (s7 0 (by omega)) R0 (show 0 + 9 < 2 ^ 31 by omega) (show 0 + x < 2 ^ 31 by omega) (fun c8 hR1 => ?_)
  refine ct_skip 6 1 (n + 1) (fun j h1 h2 => by rw [s3 j (by omega), ct_z3 j (by omega) (by omega) (by omega) (by omega)]; rfl) (by omega) ?_
  refine ct_do 7 3 2 z 50 (by omega) (by omega) (by omega) (s3 7 (by omega)) (s4 7 (by omega)) (s5 7 (by omega)) (s6 7 (by omega)) (s7 7 (by omega)) hR1 (show 0 + z < 2 ^ 31 by omega) (show 0 + 50 < 2 ^ 31 by omega) (fun d8 hR2 => ?_)
  exact H d8 hR2
theorem ct_B1 {a1 a2 a3 a4 a5 a6 a7 : Nat → Int32} {a b x y z : Nat} (hS : ct_S a b x y z 1 a1 a2 a3 a4 a5 a6 a7) (hb : a ≤ 100 ∧ b ≤ 100 ∧ x ≤ 100 ∧ y ≤ 100 ∧ z ≤ 100) : ct_B a b x y z a1 a2 a3 a4 a5 a6 a7 := by
  intro post q a8 a9 a10 H
  refine ct_B07 (n := 1 + 1 + 7) hS hb (fun b8 hR => ?_)
  obtain ⟨s1, s2, s3, s4, s5, s6, s7⟩ := hS
  refine ct_skip 7 8 (1 + 1) (fun j h1 h2 => by rw [s3 j (by omega), ct_z3 j (by omega) (by omega) (by omega) (by omega)]; rfl) (by omega) ?_
  refine ct_do 15 1 2 0 y (by omega) (by omega) (by omega) (s3 15 (by omega)) (s4 15 (by omega)) (s5 15 (by omega)) (s6 15 (by omega)) (s7 15 (by omega)) hR (show 0 + 0 < 2 ^ 31 by omega) (show 0 + y < 2 ^ 31 by omega) (fun c8 hR1 => ?_)
  refine pk_le 16 16 (fun _ => H c8 (ct_Rn hR1 (fun j => ?_))) (fun z => absurd z (by omega))
  show ct_ch 0 ((23, 0 + y) :: (13, 0 + 0) :: (25, 0 + 50) :: (35, 0 + z) :: (11, 0 + x) :: (1, 0 + 9) :: (102, b) :: (10, a) :: []) j = _
  refine ct_cc (fun _ => Nat.zero_add y) (fun n23 => ct_cc (fun _ => rfl) (fun n13 => ct_cc (fun _ => rfl) (fun n25 => ct_cc (fun _ => Nat.zero_add z) (fun n35 => ?_))))
  refine ct_cc (fun _ => Nat.zero_add x) (fun n11 => ct_cc (fun _ => rfl) (fun n1 => ct_cc (fun _ => rfl) (fun n102 => ct_cc (fun _ => rfl) (fun n10 => ?_))))
  by_cases n42 : j = 42
  · subst n42
    rfl
  by_cases n110 : j = 110
  · subst n110
    rfl
  rw [ct_Nn n102 n35 n23 n11 n10 n1 n25 n13 n42 n110]
theorem ct_B0 {a1 a2 a3 a4 a5 a6 a7 : Nat → Int32} {a b x y z : Nat} (hS : ct_S a b x y z 0 a1 a2 a3 a4 a5 a6 a7) (hb : a ≤ 100 ∧ b ≤ 100 ∧ x ≤ 100 ∧ y ≤ 100 ∧ z ≤ 100) : ct_B a b x 0 z a1 a2 a3 a4 a5 a6 a7 := by
  intro post q a8 a9 a10 H
  refine ct_B07 (n := 1 + 8) hS hb (fun b8 hR => ?_)
  obtain ⟨s1, s2, s3, s4, s5, s6, s7⟩ := hS
  refine ct_skip 8 8 1 (fun j h1 h2 => ?_) (by omega) ?_
  · rw [s3 j (by omega)]
    by_cases e : j = 15
    · subst e
      rfl
    · rw [ct_z3 j (by omega) (by omega) (by omega) e]
      rfl
  refine pk_le 16 16 (fun _ => H b8 (ct_Rn hR (fun j => ?_))) (fun z => absurd z (by omega))
  refine ct_cc (fun _ => rfl) (fun n25 => ct_cc (fun _ => Nat.zero_add z) (fun n35 => ?_))
  refine ct_cc (fun _ => Nat.zero_add x) (fun n11 => ct_cc (fun _ => rfl) (fun n1 => ct_cc (fun _ => rfl) (fun n102 => ct_cc (fun _ => rfl) (fun n10 => ?_))))
  by_cases n42 : j = 42
  · subst n42
    rfl
  by_cases n110 : j = 110
  · subst n110
    rfl
  by_cases n23 : j = 23
  · subst n23
    rfl
  by_cases n13 : j = 13
  · subst n13
    rfl
  rw [ct_Nn n102 n35 n23 n11 n10 n1 n25 n13 n42 n110]
end
section
def ct_g (k i : Nat) : Nat := k / 2 ^ i % 2
theorem ct_g2 (k i : Nat) : ct_g k i < 2 := Nat.mod_lt _ (by omega)
def ct_t3 : Nat → Nat := ct_ch 0 [(0, 1), (7, 1), (15, 1)]
def ct_t4 : Nat → Nat := ct_ch 0 [(15, 1), (7, 3)]
def ct_t5 : Nat → Nat := ct_ch 0 [(0, 1), (15, 2), (7, 2)]
theorem ct_tt : ∀ t, t < 16 → ct_t3 t < 2 ∧ ct_t4 t < 9 ∧ ct_t5 t < 9 := by decide +kernel
def ct_s1 (k a b : Nat) : Nat → Nat
  | 0 => 0
  | i + 1 => ct_s1 k a b i + (if ct_g k i = 0 then ct_ch 0 [(0, a)] i else ct_ch 0 [(3, b)] i)
def ct_u (k z t : Nat) : Nat := if ct_t3 t = 0 then 0 else if ct_g k (ct_t5 t) ≤ ct_g k (ct_t4 t) then 0 else ct_ch 0 [(0, 9), (7, z)] t
def ct_v (k x y t : Nat) : Nat := if ct_t3 t = 0 then 0 else if ct_g k (ct_t4 t) ≤ ct_g k (ct_t5 t) then 0 else ct_ch 0 [(0, x), (15, y), (7, 50)] t
def ct_s2 (k x y z s : Nat) : Nat → Nat
  | 0 => s
  | t + 1 => ct_s2 k x y z s t + ct_u k z t + ct_v k x y t
theorem ct_w101 {post : Int32 → Prop} {J : Int32 → Int32 → Prop} {x1 q : Int32} {a1 a2 a3 a4 a5 a6 a7 a8 a9 a10 : Nat → Int32} {t p r e s w v : Nat} (ht : t < 16) (h3 : a3 t = nI w) (h7 : a7 t = nI v) (hw : w < 2) (hp : p < 2) (hr : r < 2)
    (H : J (nI (s + e + (if w = 0 then 0 else if p ≤ r then 0 else v))) (nI (t + 1))) : wX_energy_101 post J x1 (nI t) (nI p) (nI r) (nI e) (nI s) q a1 a2 a3 a4 a5 a6 a7 a8 a9 a10 := by
  refine nm_r (nI_add s e) ⟨pk_in t 16 ht, ?_⟩
  rw [nI_clamp (show t < 2 ^ 31 by omega), h3, h7]
  refine pk_eq w 0 (fun z => ?_) (fun z => pk_le p r (fun c => ?_) (fun c => ⟨pk_in t 16 ht, ?_⟩))
  · rw [if_pos z] at H
    exact nm_r (nI_add (s + e) 0) (nm_r (nI_1 t) H)
  · rw [if_neg z, if_pos c] at H
    exact nm_r (nI_add (s + e) 0) (nm_r (nI_1 t) H)
  · rw [if_neg z, if_neg (by omega)] at H
    exact nm_r (nI_add (s + e) v) (nm_r (nI_1 t) H)
theorem ct_w44 {post : Int32 → Prop} {q : Int32} {a1 a2 a3 a4 a5 a6 a7 a8 a9 a10 : Nat → Int32} {k a b x y z s0 : Nat} (hS : ct_S a b x y z 1 a1 a2 a3 a4 a5 a6 a7) (hb : ∀ i, i < 9 → ((nI k).toUInt32 >>> ((nI i).toUInt32 &&& Int32.toUInt32 31)).toInt32 &&& 1 = nI (ct_g k i))
    (H : post (nI (ct_s2 k x y z s0 16))) : ∃ n, wX_energy_44 post (nI k) q a1 a2 a3 a4 a5 a6 a7 a8 a9 a10 n (nI s0) 0 := by
  obtain ⟨s1, s2, s3, s4, s5, s6, s7⟩ := hS
  refine pk_loop (fun n t s => wX_energy_44 post (nI k) q a1 a2 a3 a4 a5 a6 a7 a8 a9 a10 n s (nI t)) (fun t s => s = nI (ct_s2 k x y z s0 t)) 16 0 (nI s0) (by omega) rfl ?_ ?_
  · intro n s h
    subst h
    exact pk_le 16 16 (fun _ => H) (fun z => absurd z (by omega))
  · intro n t s ht h hw
    subst h
    obtain ⟨t3, t4, t5⟩ := ct_tt t ht
    have e3 : a3 t = nI (ct_t3 t) := s3 t ht
    have e4 : a4 t = nI (ct_t4 t) := s4 t ht
    have e5 : a5 t = nI (ct_t5 t) := s5 t ht
    have hw' := hw (nI (ct_s2 k x y z s0 t + ct_u k z t + ct_v k x y t)) rfl
    refine pk_le 16 t (fun z => absurd z (by omega)) (fun _ => ⟨pk_in t 16 ht, ?_⟩)
    rw [nI_clamp (show t < 2 ^ 31 by omega), e3, e4, e5, s6 t ht]
    refine nm_r (hb _ t4) ⟨pk_in t 16 ht, nm_r (hb _ t5) ⟨pk_in t 16 ht, ?_⟩⟩
    unfold ct_u ct_v at hw'
    refine pk_eq (ct_t3 t) 0 (fun c => ?_) (fun c => pk_le (ct_g k (ct_t5 t)) (ct_g k (ct_t4 t)) (fun c2 => ?_) (fun c2 => ⟨pk_in t 16 ht, ?_⟩) rfl rfl (by have := ct_g2 k (ct_t5 t); omega) (by have := ct_g2 k (ct_t4 t); omega))
    · rw [if_pos c] at hw'
      refine ct_w101 (e := 0) ht e3 (s7 t ht) t3 (ct_g2 _ _) (ct_g2 _ _) ?_
      exact hw'
    · rw [if_neg c, if_pos c2] at hw'
      refine ct_w101 (e := 0) ht e3 (s7 t ht) t3 (ct_g2 _ _) (ct_g2 _ _) ?_
      exact hw'
    · rw [if_neg c, if_neg (show ¬ ct_g k (ct_t5 t) ≤ ct_g k (ct_t4 t) by omega)] at hw'
      refine ct_w101 ht e3 (s7 t ht) t3 (ct_g2 _ _) (ct_g2 _ _) ?_
      exact hw'
theorem ct_energy {post : Int32 → Prop} {q : Int32} {a1 a2 a3 a4 a5 a6 a7 a8 a9 a10 : Nat → Int32} {a b x y z : Nat} (k v : Nat) (hS : ct_S a b x y z 1 a1 a2 a3 a4 a5 a6 a7) (hb : ∀ i, i < 9 → ((nI k).toUInt32 >>> ((nI i).toUInt32 &&& Int32.toUInt32 31)).toInt32 &&& 1 = nI (ct_g k i))
    (hv : ct_s2 k x y z (ct_s1 k a b 9) 16 = v) (H : post (nI v)) : wpX_energy post (q, a1, a2, a3, a4, a5, a6, a7, a8, a9, a10) (nI k) := by
  subst hv
  refine pk_loop (fun n t s => wX_energy_4 post (nI k) q a1 a2 a3 a4 a5 a6 a7 a8 a9 a10 n s (nI t)) (fun t s => s = nI (ct_s1 k a b t)) 9 0 (nI 0) (by omega) rfl ?_ ?_
  · intro n s h
    subst h
    exact pk_le 9 9 (fun _ => ct_w44 hS hb H) (fun z => absurd z (by omega))
  · intro n t s ht h hw
    subst h
    obtain ⟨s1, s2, s3, s4, s5, s6, s7⟩ := hS
    have hw' := hw (nI (ct_s1 k a b t + (if ct_g k t = 0 then ct_ch 0 [(0, a)] t else ct_ch 0 [(3, b)] t))) rfl
    refine pk_le 9 t (fun z => absurd z (by omega)) (fun _ => ?_)
    rw [hb t ht, nI_clamp (show t < 2 ^ 31 by omega), s1 t ht, s2 t ht]
    refine pk_eq (ct_g k t) 0 (fun c => ?_) (fun c => ?_) rfl rfl (by have := ct_g2 k t; omega)
    · rw [if_pos c] at hw'
      exact ⟨pk_in t 9 ht, nm_r (nI_add _ _) (nm_r (nI_1 t) hw')⟩
    · rw [if_neg c] at hw'
      exact ⟨pk_in t 9 ht, nm_r (nI_add _ _) (nm_r (nI_1 t) hw')⟩
theorem ct_v0 (a b x y z : Nat) : ct_s2 0 x y z (ct_s1 0 a b 9) 16 = a := by simp [ct_s2, ct_s1, ct_u, ct_v, ct_g, ct_ch, ct_t3, ct_t4, ct_t5]
theorem ct_v15 (a b x y z : Nat) : ct_s2 15 x y z (ct_s1 15 a b 9) 16 = b := by simp [ct_s2, ct_s1, ct_u, ct_v, ct_g, ct_ch, ct_t3, ct_t4, ct_t5]
theorem ct_v1 (a b x y z : Nat) : ct_s2 1 x y z (ct_s1 1 a b 9) 16 = x := by simp [ct_s2, ct_s1, ct_u, ct_v, ct_g, ct_ch, ct_t3, ct_t4, ct_t5]
theorem ct_v3 (a b x y z : Nat) : ct_s2 3 x y z (ct_s1 3 a b 9) 16 = y := by simp [ct_s2, ct_s1, ct_u, ct_v, ct_g, ct_ch, ct_t3, ct_t4, ct_t5]
theorem ct_v7 (a b x y z : Nat) : ct_s2 7 x y z (ct_s1 7 a b 9) 16 = z := by simp [ct_s2, ct_s1, ct_u, ct_v, ct_g, ct_ch, ct_t3, ct_t4, ct_t5]
theorem ct_v14 (a b x y z : Nat) : ct_s2 14 x y z (ct_s1 14 a b 9) 16 = a + b + 9 := by simp [ct_s2, ct_s1, ct_u, ct_v, ct_g, ct_ch, ct_t3, ct_t4, ct_t5]
theorem ct_v8 (a b x y z : Nat) : ct_s2 8 x y z (ct_s1 8 a b 9) 16 = a + b + 50 := by simp [ct_s2, ct_s1, ct_u, ct_v, ct_g, ct_ch, ct_t3, ct_t4, ct_t5]
theorem ct_v496 (a b x y z : Nat) : ct_s2 496 x y z (ct_s1 496 a b 9) 16 = a := by simp [ct_s2, ct_s1, ct_u, ct_v, ct_g, ct_ch, ct_t3, ct_t4, ct_t5]
end
section
/-- the sizes: md the least of x, y, z; m the least of all -/
def ct_M (a b x y z md m : Nat) : Prop := (1 ≤ a ∧ a ≤ 100 ∧ 1 ≤ b ∧ b ≤ 100 ∧ x ≤ 100 ∧ y ≤ 100 ∧ z ≤ 100) ∧ (md ≤ x ∧ md ≤ y ∧ md ≤ z ∧ (md = x ∨ md = y ∨ md = z)) ∧ (m ≤ a ∧ m ≤ b ∧ m ≤ md ∧ (m = a ∨ m = b ∨ m = md))
def ct_mi (p q : Nat) : Nat := if q ≤ p then q else p
theorem ct_mip (p q : Nat) : ct_mi p q ≤ p ∧ ct_mi p q ≤ q ∧ (ct_mi p q = p ∨ ct_mi p q = q) := by
  unfold ct_mi
  split <;> omega
theorem ct_lst {post : Int32 → Prop} {p q : Nat} (hp : p < 2 ^ 31) (hq : q < 2 ^ 31) (H : post (nI (ct_mi p q))) : wpL_least post () (nI p) (nI q) := by
  unfold ct_mi at H
  refine pk_le q p (fun h => ?_) (fun h => ?_)
  · rw [if_pos h] at H
    exact H
  · rw [if_neg (by omega)] at H
    exact H
/-- labels, gathered place by place -/
def ct_lm (g : Nat → Bool) : Nat → Int32
  | 0 => 0
  | p + 1 => if g p = true then ct_lm g p ||| ((1 : Int32) <<< (nI p &&& 31)) else ct_lm g p ||| 0
theorem ct_lw {post : Int32 → St2 → Prop} {q : Int32} {a1 a2 a3 a4 a5 a6 a7 a8 a9 a10 : Nat → Int32} {l : List (Nat × Nat)} {g : Nat → Bool} (hR : ct_R l a8) (hc : ∀ p, p < 9 → ct_chk (ct_b l) p (fun r => decide (decide (ct_ch 11 r 10 < 11) = g p)) = true)
    (H : ∀ (q : Int32) (a9 a10 : Nat → Int32), post (ct_lm g 9) (q, a1, a2, a3, a4, a5, a6, a7, a8, a9, a10)) : ∃ n, wX_lower_13 post n 0 0 q a1 a2 a3 a4 a5 a6 a7 a8 a9 a10 := by
  refine pk_loop (fun n i (s : Int32 × Int32 × (Nat → Int32) × (Nat → Int32)) => wX_lower_13 post n s.1 (nI i) s.2.1 a1 a2 a3 a4 a5 a6 a7 a8 s.2.2.1 s.2.2.2) (fun i s => s.1 = ct_lm g i) 9 0 (0, q, a9, a10) (by omega) rfl ?_ ?_
  · intro n s h
    obtain ⟨x, q, a9, a10⟩ := s
    have h' : x = ct_lm g 9 := h
    subst h'
    exact pk_le 9 9 (fun _ => H q a9 a10) (fun z => absurd z (by omega))
  · intro n i s hi h hw
    obtain ⟨x, q, a9, a10⟩ := s
    have h' : x = ct_lm g i := h
    subst h'
    refine pk_le 9 i (fun z => absurd z (by omega)) (fun _ => ct_srch (by omega) hR (hc i hi) (fun r q a9 a10 hF hE => ?_))
    have hF' := of_decide_eq_true hF
    have e := hE 10 (by omega)
    have hw1 : ∀ x, x = ct_lm g (i + 1) → wX_lower_13 post n x (nI (i + 1)) q a1 a2 a3 a4 a5 a6 a7 a8 a9 a10 := fun x hx => hw (x, q, a9, a10) hx
    by_cases c : ct_ch 11 r 10 < 11
    · have hg : g i = true := by rw [← hF']; exact decide_eq_true c
      refine br_f (by rw [e]; exact ct_e5 c) (nm_e (nm_r (nI_1 i) (hw1 _ ?_)))
      rw [ct_lm, if_pos hg]
    · have hg : ¬ g i = true := by rw [← hF', decide_eq_true_eq]; exact c
      refine br_t (by rw [e]; exact ct_e6 c) (nm_e (nm_r (nI_1 i) (hw1 _ ?_)))
      rw [ct_lm, if_neg hg]
theorem ct_uw {post : Int32 → St2 → Prop} {q : Int32} {a1 a2 a3 a4 a5 a6 a7 a8 a9 a10 : Nat → Int32} {r : List (Nat × Nat)} {g : Nat → Bool} (hE : ct_E r a9) (hg : ∀ p, p < 9 → decide (ct_ch 11 r p < 11) = !g p)
    (H : post (ct_lm g 9) (q, a1, a2, a3, a4, a5, a6, a7, a8, a9, a10)) : ∃ n, wX_upper_19 post q a1 a2 a3 a4 a5 a6 a7 a8 a9 a10 n 0 0 := by
  refine pk_loop (fun n i s => wX_upper_19 post q a1 a2 a3 a4 a5 a6 a7 a8 a9 a10 n s (nI i)) (fun i s => s = ct_lm g i) 9 0 0 (by omega) rfl ?_ ?_
  · intro n s h
    subst h
    exact pk_le 9 9 (fun _ => H) (fun z => absurd z (by omega))
  · intro n i s hi h hw
    subst h
    have e := hE i (by omega)
    have hF := hg i hi
    refine pk_le 9 i (fun z => absurd z (by omega)) (fun _ => ⟨pk_in i 11 (by omega), ?_⟩)
    rw [nI_clamp (show i < 2 ^ 31 by omega), e]
    by_cases c : ct_ch 11 r i < 11
    · have hn : ¬ g i = true := by
        intro z
        rw [decide_eq_true c, z] at hF
        cases hF
      refine br_t (ct_e3 c) (nm_e (nm_r (nI_1 i) (hw _ ?_)))
      rw [ct_lm, if_neg hn]
    · have hn : g i = true := by
        rw [decide_eq_false c] at hF
        cases z : g i
        · rw [z] at hF
          cases hF
        · rfl
      refine br_f (ct_e4 c) (nm_e (nm_r (nI_1 i) (hw _ ?_)))
      rw [ct_lm, if_pos hn]
def ct_al (f : Nat → Bool) : Nat → Bool
  | 0 => true
  | n + 1 => f n && ct_al f n
theorem ct_alp {f : Nat → Bool} : ∀ n, ct_al f n = true → ∀ p, p < n → f p = true := by
  intro n
  induction n with
  | zero => intro _ p hp; exact absurd hp (by omega)
  | succ n ih =>
    intro h p hp
    rw [ct_al, Bool.and_eq_true] at h
    by_cases e : p = n
    · rw [e]
      exact h.1
    · exact ih h.2 p (by omega)
/-- from which places the one end is reached -/
def ct_G (b2 b3 b4 b5 : Bool) (p : Nat) : Bool := if p = 0 then b5 else if p = 1 then b5 && b4 else if p = 2 then b5 && b4 && b3 else if p = 3 then b5 && b4 && b3 && b2 else false
/-- which places the zero end doesn't reach -/
def ct_U (b1 b2 b3 b4 : Bool) (p : Nat) : Bool := if p = 3 then !b1 else if p = 2 then !(b1 && b2) else if p = 1 then !(b1 && b2 && b3) else if p = 0 then !(b1 && b2 && b3 && b4) else true
theorem ct_kL : ∀ b1 b2 b3 b4 b5 r : Bool, ∀ p, p < 9 → ct_chk (ct_NB b1 b2 b3 b4 b5 true true r r r []) p (fun s => decide (decide (ct_ch 11 s 10 < 11) = ct_G b2 b3 b4 b5 p)) = true := by decide +kernel
theorem ct_kU : ∀ b1 b2 b3 b4 b5 r : Bool, ct_chk (ct_NB b1 b2 b3 b4 b5 true true r r r []) 9 (fun s => ct_al (fun p => decide (decide (ct_ch 11 s p < 11) = !ct_U b1 b2 b3 b4 p)) 9) = true := by decide +kernel
theorem ct_lG : ∀ b2 b3 b4 b5 : Bool, ct_lm (ct_G b2 b3 b4 b5) 9 = if b5 = false then 0 else if b4 = false then 1 else if b3 = false then 3 else if b2 = false then 7 else 15 := by decide +kernel
theorem ct_lU : ∀ b1 b2 b3 b4 : Bool, ct_lm (ct_U b1 b2 b3 b4) 9 = if b1 = false then 511 else if b2 = false then 503 else if b3 = false then 499 else if b4 = false then 497 else 496 := by decide +kernel
def ct_lv (a x y z m : Nat) : Int32 := if a = m then 0 else if x = m then 1 else if y = m then 3 else if z = m then 7 else 15
def ct_uv (b x y z m : Nat) : Int32 := if b = m then 511 else if z = m then 503 else if y = m then 499 else if x = m then 497 else 496
theorem ct_df {n m : Nat} (h : m ≤ n) : (decide (0 < n - m) = false) = (n = m) := by
  rw [decide_eq_false_iff_not]
  exact propext ⟨fun _ => by omega, fun _ => by omega⟩
theorem ct_lve {a x y z m : Nat} (ha : m ≤ a) (hx : m ≤ x) (hy : m ≤ y) (hz : m ≤ z) : ct_lm (ct_G (decide (0 < z - m)) (decide (0 < y - m)) (decide (0 < x - m)) (decide (0 < a - m))) 9 = ct_lv a x y z m := by
  rw [ct_lG]
  simp only [ct_df ha, ct_df hx, ct_df hy, ct_df hz, ct_lv]
theorem ct_uve {b x y z m : Nat} (hb : m ≤ b) (hx : m ≤ x) (hy : m ≤ y) (hz : m ≤ z) : ct_lm (ct_U (decide (0 < b - m)) (decide (0 < z - m)) (decide (0 < y - m)) (decide (0 < x - m))) 9 = ct_uv b x y z m := by
  rw [ct_lU]
  simp only [ct_df hb, ct_df hx, ct_df hy, ct_df hz, ct_uv]
theorem ct_least {post : Int32 → St2 → Prop} {q : Int32} {a1 a2 a3 a4 a5 a6 a7 a8 a9 a10 : Nat → Int32} {a b x y z md m : Nat} (hB : ct_B a b x y z a1 a2 a3 a4 a5 a6 a7) (hM : ct_M a b x y z md m)
    (H : ∀ (q : Int32) (a8 a9 a10 : Nat → Int32), post (nI m) (q, a1, a2, a3, a4, a5, a6, a7, a8, a9, a10)) : wpX_least post (q, a1, a2, a3, a4, a5, a6, a7, a8, a9, a10) := by
  unfold ct_M at hM
  unfold wpX_least
  refine hB _ _ _ _ _ (fun a8 hR => ?_)
  exact ct_fillP (E := []) ct_Y0 hR (by omega) (by omega) (by omega) (fun q a8 a9 a10 _ => H q a8 a9 a10)
theorem ct_lower {post : Int32 → St2 → Prop} {q : Int32} {a1 a2 a3 a4 a5 a6 a7 a8 a9 a10 : Nat → Int32} {a b x y z md m : Nat} (hB : ct_B a b x y z a1 a2 a3 a4 a5 a6 a7) (hM : ct_M a b x y z md m)
    (H : ∀ (q : Int32) (a8 a9 a10 : Nat → Int32), post (ct_lv a x y z m) (q, a1, a2, a3, a4, a5, a6, a7, a8, a9, a10)) : wpX_lower post (q, a1, a2, a3, a4, a5, a6, a7, a8, a9, a10) := by
  unfold ct_M at hM
  unfold wpX_lower
  rw [← ct_lve (by omega) (by omega) (by omega) (by omega)] at H
  refine hB _ _ _ _ _ (fun a8 hR => ?_)
  refine ct_fillP (E := []) ct_Y0 hR (m := m) (by omega) (by omega) (by omega) (fun q a8 a9 a10 hR => ?_)
  refine ct_lw hR (fun p hp => ?_) (fun q a9 a10 => H q a8 a9 a10)
  rw [ct_bN, ct_dt (show 0 < 9 + m by omega), ct_dt (show 0 < 50 + m by omega)]
  exact ct_kL _ _ _ _ _ _ p hp
theorem ct_upper {post : Int32 → St2 → Prop} {q : Int32} {a1 a2 a3 a4 a5 a6 a7 a8 a9 a10 : Nat → Int32} {a b x y z md m : Nat} (hB : ct_B a b x y z a1 a2 a3 a4 a5 a6 a7) (hM : ct_M a b x y z md m)
    (H : ∀ (q : Int32) (a8 a9 a10 : Nat → Int32), post (ct_uv b x y z m) (q, a1, a2, a3, a4, a5, a6, a7, a8, a9, a10)) : wpX_upper post (q, a1, a2, a3, a4, a5, a6, a7, a8, a9, a10) := by
  unfold ct_M at hM
  unfold wpX_upper
  rw [← ct_uve (by omega) (by omega) (by omega) (by omega)] at H
  refine hB _ _ _ _ _ (fun a8 hR => ?_)
  refine ct_fillP (E := []) ct_Y0 hR (m := m) (by omega) (by omega) (by omega) (fun q a8 a9 a10 hR => ?_)
  refine ct_srch (s := 9) (by omega) hR (F := fun s => ct_al (fun p => decide (decide (ct_ch 11 s p < 11) = !ct_U (decide (0 < b - m)) (decide (0 < z - m)) (decide (0 < y - m)) (decide (0 < x - m)) p)) 9) ?_ (fun r q a9 a10 hF hE => ?_)
  · rw [ct_bN, ct_dt (show 0 < 9 + m by omega), ct_dt (show 0 < 50 + m by omega)]
    exact ct_kU _ _ _ _ _ _
  · exact ct_uw hE (fun p hp => of_decide_eq_true (ct_alp 9 hF p hp)) (H q a8 a9 a10)
theorem ct_ip {post : Int32 → Prop} {p : Int32} (h1 : ¬ p < 0) (h2 : ¬ 8 < p) (H : post 1) : wpX_isPlace post () p := br_f h1 (br_f h2 H)
theorem ct_ic {post : Int32 → Prop} {p : Int32} (h1 : ¬ p < 0) (h2 : ¬ 100 < p) (H : post 1) : wpX_isCost post () p := br_f h1 (br_f h2 H)
theorem ct_fc0 {post : St2 → Prop} {q : Int32} {a1 a2 a3 a4 a5 a6 a7 a8 a9 a10 : Nat → Int32} {l : List (Nat × Nat)} {x : Int32} (p : Nat) (hp : p < 9) (hx : x = 0) (hR : ct_R l a8) (H : ∀ a8, ct_R ((99 + p, 1000000) :: l) a8 → post (q, a1, a2, a3, a4, a5, a6, a7, a8, a9, a10)) : wpX_force post (q, a1, a2, a3, a4, a5, a6, a7, a8, a9, a10) (nI p) x := by
  unfold wpX_force
  refine br_t hx ?_
  rw [show (99 : Int32) + nI p = nI (99 + p) from nI_add 99 p, nI_clamp (show 99 + p < 2 ^ 31 by omega)]
  exact ⟨pk_in (99 + p) 121 (by omega), nm_e (H _ (ct_Rc hR rfl (by omega)))⟩
theorem ct_fc1 {post : St2 → Prop} {q : Int32} {a1 a2 a3 a4 a5 a6 a7 a8 a9 a10 : Nat → Int32} {l : List (Nat × Nat)} {x : Int32} (p : Nat) (hp : p < 9) (hx : ¬ x = 0) (hR : ct_R l a8) (H : ∀ a8, ct_R ((11 * p + 10, 1000000) :: l) a8 → post (q, a1, a2, a3, a4, a5, a6, a7, a8, a9, a10)) : wpX_force post (q, a1, a2, a3, a4, a5, a6, a7, a8, a9, a10) (nI p) x := by
  unfold wpX_force
  refine br_f hx ?_
  rw [show (11 : Int32) * nI p + 10 = nI (11 * p + 10) from ct_ix p 10, nI_clamp (show 11 * p + 10 < 2 ^ 31 by omega)]
  exact ⟨pk_in (11 * p + 10) 121 (by omega), nm_e (H _ (ct_Rc hR rfl (by omega)))⟩
theorem ct_w00 {post : Int32 → St2 → Prop} {q : Int32} {a1 a2 a3 a4 a5 a6 a7 a8 a9 a10 : Nat → Int32} {a b x y z md m : Nat} (hB : ct_B a b x y z a1 a2 a3 a4 a5 a6 a7) (hM : ct_M a b x y z md m)
    (H : ∀ (q : Int32) (a8 a9 a10 : Nat → Int32), post (nI a) (q, a1, a2, a3, a4, a5, a6, a7, a8, a9, a10)) : wpX_with post (q, a1, a2, a3, a4, a5, a6, a7, a8, a9, a10) 0 0 := by
  unfold ct_M at hM
  unfold wpX_with
  refine ct_ip (by decide) (by decide) (br_f (by decide) ?_)
  refine hB _ _ _ _ _ (fun a8 hR => ?_)
  refine ct_fc0 0 (by omega) (by decide) hR (fun a8 hR => ?_)
  exact ct_fill1 (ct_Rn hR (ct_mv (by decide))) (by omega) (by omega) H
theorem ct_w31 {post : Int32 → St2 → Prop} {q : Int32} {a1 a2 a3 a4 a5 a6 a7 a8 a9 a10 : Nat → Int32} {a b x y z md m : Nat} (hB : ct_B a b x y z a1 a2 a3 a4 a5 a6 a7) (hM : ct_M a b x y z md m)
    (H : ∀ (q : Int32) (a8 a9 a10 : Nat → Int32), post (nI b) (q, a1, a2, a3, a4, a5, a6, a7, a8, a9, a10)) : wpX_with post (q, a1, a2, a3, a4, a5, a6, a7, a8, a9, a10) 3 1 := by
  unfold ct_M at hM
  unfold wpX_with
  refine ct_ip (by decide) (by decide) (br_f (by decide) ?_)
  refine hB _ _ _ _ _ (fun a8 hR => ?_)
  refine ct_fc1 3 (by omega) (by decide) hR (fun a8 hR => ?_)
  exact ct_fill3 (ct_Rn hR (ct_mv (by decide))) (by omega) (by omega) H
theorem ct_w01 {post : Int32 → St2 → Prop} {q : Int32} {a1 a2 a3 a4 a5 a6 a7 a8 a9 a10 : Nat → Int32} {a b x y z md m : Nat} (hB : ct_B a b x y z a1 a2 a3 a4 a5 a6 a7) (hM : ct_M a b x y z md m)
    (H : ∀ (q : Int32) (a8 a9 a10 : Nat → Int32), post (nI (ct_mi b md)) (q, a1, a2, a3, a4, a5, a6, a7, a8, a9, a10)) : wpX_with post (q, a1, a2, a3, a4, a5, a6, a7, a8, a9, a10) 0 1 := by
  unfold ct_M at hM
  have hi := ct_mip b md
  unfold wpX_with
  refine ct_ip (by decide) (by decide) (br_f (by decide) ?_)
  refine hB _ _ _ _ _ (fun a8 hR => ?_)
  refine ct_fc1 0 (by omega) (by decide) hR (fun a8 hR => ?_)
  exact ct_fillP (E := []) ct_Y0 (ct_Rn hR ct_m10) (by omega) (by omega) (by omega) (fun q a8 a9 a10 _ => H q a8 a9 a10)
theorem ct_w30 {post : Int32 → St2 → Prop} {q : Int32} {a1 a2 a3 a4 a5 a6 a7 a8 a9 a10 : Nat → Int32} {a b x y z md m : Nat} (hB : ct_B a b x y z a1 a2 a3 a4 a5 a6 a7) (hM : ct_M a b x y z md m)
    (H : ∀ (q : Int32) (a8 a9 a10 : Nat → Int32), post (nI (ct_mi a md)) (q, a1, a2, a3, a4, a5, a6, a7, a8, a9, a10)) : wpX_with post (q, a1, a2, a3, a4, a5, a6, a7, a8, a9, a10) 3 0 := by
  unfold ct_M at hM
  have hi := ct_mip a md
  unfold wpX_with
  refine ct_ip (by decide) (by decide) (br_f (by decide) ?_)
  refine hB _ _ _ _ _ (fun a8 hR => ?_)
  refine ct_fc0 3 (by omega) (by decide) hR (fun a8 hR => ?_)
  exact ct_fillP (E := []) ct_Y0 (ct_Rn hR ct_m102) (by omega) (by omega) (by omega) (fun q a8 a9 a10 _ => H q a8 a9 a10)
theorem ct_w90 {post : Int32 → St2 → Prop} {q : Int32} {a1 a2 a3 a4 a5 a6 a7 a8 a9 a10 : Nat → Int32} (H : post (-1) (q, a1, a2, a3, a4, a5, a6, a7, a8, a9, a10)) : wpX_with post (q, a1, a2, a3, a4, a5, a6, a7, a8, a9, a10) 9 0 := by
  unfold wpX_with
  exact br_f (by decide) (br_t (by decide) (br_t rfl H))
theorem ct_p03 {post : Int32 → St2 → Prop} {q : Int32} {a1 a2 a3 a4 a5 a6 a7 a8 a9 a10 : Nat → Int32} {a b x y z md m : Nat} (hB : ct_B a b x y z a1 a2 a3 a4 a5 a6 a7) (hM : ct_M a b x y z md m)
    (H : ∀ (q : Int32) (a8 a9 a10 : Nat → Int32), post (nI (ct_mi md (a + b))) (q, a1, a2, a3, a4, a5, a6, a7, a8, a9, a10)) : wpX_apart post (q, a1, a2, a3, a4, a5, a6, a7, a8, a9, a10) 0 3 := by
  unfold ct_M at hM
  have hi := ct_mip md (a + b)
  unfold wpX_apart
  refine ct_ip (by decide) (by decide) (br_f (by decide) (ct_ip (by decide) (by decide) (br_f (by decide) (br_f (by decide) ?_))))
  refine hB _ _ _ _ _ (fun a8 hR => ?_)
  refine ct_fc0 0 (by omega) (by decide) hR (fun a8 hR => ?_)
  refine ct_fc1 3 (by omega) (by decide) (ct_Rn hR (ct_mv (by decide))) (fun a8 hR => ?_)
  refine ct_fill13 (ct_Rn hR (ct_mv (by decide))) (by omega) (by omega) (fun q a8 a9 a10 => ?_)
  refine hB _ _ _ _ _ (fun a8 hR => ?_)
  refine ct_fc1 0 (by omega) (by decide) hR (fun a8 hR => ?_)
  refine ct_fc0 3 (by omega) (by decide) (ct_Rn hR ct_m10) (fun a8 hR => ?_)
  refine ct_fillP (E := []) ct_Y0 (ct_Rn hR ct_m102) (m := md) (by omega) (by omega) (by omega) (fun q a8 a9 a10 _ => ?_)
  have h := H q a8 a9 a10
  refine pk_le md (a + b) (fun c => ?_) (fun c => ?_)
  · rw [show ct_mi md (a + b) = md by omega] at h
    exact h
  · rw [show ct_mi md (a + b) = a + b by omega] at h
    exact h
theorem ct_p45 {post : Int32 → St2 → Prop} {q : Int32} {a1 a2 a3 a4 a5 a6 a7 a8 a9 a10 : Nat → Int32} {a b x y z md m : Nat} (hB : ct_B a b x y z a1 a2 a3 a4 a5 a6 a7) (hM : ct_M a b x y z md m)
    (H : ∀ (q : Int32) (a8 a9 a10 : Nat → Int32), post (nI m) (q, a1, a2, a3, a4, a5, a6, a7, a8, a9, a10)) : wpX_apart post (q, a1, a2, a3, a4, a5, a6, a7, a8, a9, a10) 4 5 := by
  unfold ct_M at hM
  unfold wpX_apart
  refine ct_ip (by decide) (by decide) (br_f (by decide) (ct_ip (by decide) (by decide) (br_f (by decide) (br_f (by decide) ?_))))
  refine hB _ _ _ _ _ (fun a8 hR => ?_)
  refine ct_fc0 4 (by omega) (by decide) hR (fun a8 hR => ?_)
  refine ct_fc1 5 (by omega) (by decide) (ct_Rn hR (ct_mv (by decide))) (fun a8 hR => ?_)
  refine ct_fillP (E := [(65, 1000000), (103, 1000000)]) ct_Ya (ct_Rn hR (ct_mv (by decide))) (m := m) (by omega) (by omega) (by omega) (fun q a8 a9 a10 _ => ?_)
  refine hB _ _ _ _ _ (fun a8 hR => ?_)
  refine ct_fc1 4 (by omega) (by decide) hR (fun a8 hR => ?_)
  refine ct_fc0 5 (by omega) (by decide) (ct_Rn hR (ct_mv (by decide))) (fun a8 hR => ?_)
  refine ct_fillP (E := [(104, 1000000), (54, 1000000)]) ct_Yb (ct_Rn hR (ct_mv (by decide))) (m := m) (by omega) (by omega) (by omega) (fun q a8 a9 a10 _ => ?_)
  exact pk_le m m (fun _ => H q a8 a9 a10) (fun c => absurd c (by omega))
theorem ct_p44 {post : Int32 → St2 → Prop} {q : Int32} {a1 a2 a3 a4 a5 a6 a7 a8 a9 a10 : Nat → Int32} (H : post (-1) (q, a1, a2, a3, a4, a5, a6, a7, a8, a9, a10)) : wpX_apart post (q, a1, a2, a3, a4, a5, a6, a7, a8, a9, a10) 4 4 := by
  unfold wpX_apart
  exact ct_ip (by decide) (by decide) (br_f (by decide) (ct_ip (by decide) (by decide) (br_f (by decide) (br_t rfl H))))
theorem ct_cut {post : Int32 → St2 → Prop} {q : Int32} {a1 a2 a3 a4 a5 a6 a7 a8 a9 a10 : Nat → Int32} (w : Nat) (hw : a3 15 = nI w) (h2 : w < 2) (H : post (nI w) (q, a1, a2, upd a3 15 0, a4, a5, a6, a7, a8, a9, a10)) : wpX_cut post (q, a1, a2, a3, a4, a5, a6, a7, a8, a9, a10) 15 := by
  unfold wpX_cut
  refine br_f (by decide) (br_t (by decide) ⟨pk_in 15 16 (by omega), ?_⟩)
  rw [show (15 : Int32).toNatClampNeg = 15 from rfl, hw]
  refine pk_eq w 0 (fun e => ?_) (fun e => ?_)
  · subst e
    exact ⟨pk_in 15 16 (by omega), nm_e H⟩
  · have e' : w = 1 := by omega
    subst e'
    exact ⟨pk_in 15 16 (by omega), nm_e H⟩
theorem ct_c16 {post : Int32 → St2 → Prop} {q : Int32} {a1 a2 a3 a4 a5 a6 a7 a8 a9 a10 : Nat → Int32} (H : post (-1) (q, a1, a2, a3, a4, a5, a6, a7, a8, a9, a10)) : wpX_cut post (q, a1, a2, a3, a4, a5, a6, a7, a8, a9, a10) 16 := by
  unfold wpX_cut
  exact br_f (by decide) (br_f (by decide) H)
theorem ct_tA {post : Int32 → St2 → Prop} {q : Int32} {a1 a2 a3 a4 a5 a6 a7 a8 a9 a10 : Nat → Int32} (H : post (-1) (q, a1, a2, a3, a4, a5, a6, a7, a8, a9, a10)) : wpX_tie post (q, a1, a2, a3, a4, a5, a6, a7, a8, a9, a10) 3 1 1 5 5 := by
  unfold wpX_tie
  exact br_f (by decide) (br_f (by decide) (ct_ip (by decide) (by decide) (br_f (by decide) (ct_ip (by decide) (by decide) (br_f (by decide) (br_t rfl H))))))
theorem ct_tB {post : Int32 → St2 → Prop} {q : Int32} {a1 a2 a3 a4 a5 a6 a7 a8 a9 a10 : Nat → Int32} (H : post (-1) (q, a1, a2, a3, a4, a5, a6, a7, a8, a9, a10)) : wpX_tie post (q, a1, a2, a3, a4, a5, a6, a7, a8, a9, a10) 3 1 2 101 5 := by
  unfold wpX_tie
  exact br_f (by decide) (br_f (by decide) (ct_ip (by decide) (by decide) (br_f (by decide) (ct_ip (by decide) (by decide) (br_f (by decide) (br_f (by decide) (br_f (by decide) (br_t (by decide) (br_t rfl H)))))))))
theorem ct_cA {post : Int32 → St2 → Prop} {q : Int32} {a1 a2 a3 a4 a5 a6 a7 a8 a9 a10 : Nat → Int32} (H : post (-1) (q, a1, a2, a3, a4, a5, a6, a7, a8, a9, a10)) : wpX_cost post (q, a1, a2, a3, a4, a5, a6, a7, a8, a9, a10) 9 0 0 := by
  unfold wpX_cost
  exact br_f (by decide) (br_t (by decide) (br_t rfl H))
theorem ct_cB {post : Int32 → St2 → Prop} {q : Int32} {a1 a2 a3 a4 a5 a6 a7 a8 a9 a10 : Nat → Int32} (H : post (-1) (q, a1, a2, a3, a4, a5, a6, a7, a8, a9, a10)) : wpX_cost post (q, a1, a2, a3, a4, a5, a6, a7, a8, a9, a10) 0 (-1) 0 := by
  unfold wpX_cost
  exact ct_ip (by decide) (by decide) (br_f (by decide) (br_t (by decide) (br_t rfl H)))
theorem ct_cI {post : Int32 → St2 → Prop} {q : Int32} {a1 a2 a3 a4 a5 a6 a7 a8 a9 a10 : Nat → Int32} (p u v : Nat) (hp : p < 9) (hu : u ≤ 100) (hv : v ≤ 100) (H : post 0 (q, upd a1 p (nI u), upd a2 p (nI v), a3, a4, a5, a6, a7, a8, a9, a10)) : wpX_cost post (q, a1, a2, a3, a4, a5, a6, a7, a8, a9, a10) (nI p) (nI u) (nI v) := by
  unfold wpX_cost
  refine ct_ip (nI_pos (by omega)) (nI_nlt (a := 8) (b := p) (by omega) (by omega)) (br_f (by decide) ?_)
  refine ct_ic (nI_pos (by omega)) (nI_nlt (a := 100) (b := u) (by omega) (by omega)) (br_f (by decide) ?_)
  refine ct_ic (nI_pos (by omega)) (nI_nlt (a := 100) (b := v) (by omega) (by omega)) (br_f (by decide) ?_)
  rw [nI_clamp (show p < 2 ^ 31 by omega)]
  exact ⟨pk_in p 9 hp, nm_e ⟨pk_in p 9 hp, nm_e H⟩⟩
theorem ct_tI {post : Int32 → St2 → Prop} {q : Int32} {a1 a2 a3 a4 a5 a6 a7 a8 a9 a10 : Nat → Int32} (t i k u v : Nat) (ht : t < 16) (hi : i < 9) (hk : k < 9) (hn : i ≠ k) (hu : u ≤ 100) (hv : v ≤ 100)
    (H : post 0 (q, a1, a2, upd a3 t 1, upd a4 t (nI i), upd a5 t (nI k), upd a6 t (nI u), upd a7 t (nI v), a8, a9, a10)) : wpX_tie post (q, a1, a2, a3, a4, a5, a6, a7, a8, a9, a10) (nI t) (nI i) (nI k) (nI u) (nI v) := by
  unfold wpX_tie
  refine br_f (nI_pos (by omega)) (br_f (nI_nlt (a := 15) (b := t) (by omega) (by omega)) ?_)
  refine ct_ip (nI_pos (by omega)) (nI_nlt (a := 8) (b := i) (by omega) (by omega)) (br_f (by decide) ?_)
  refine ct_ip (nI_pos (by omega)) (nI_nlt (a := 8) (b := k) (by omega) (by omega)) (br_f (by decide) ?_)
  refine br_f (fun e => hn ((nI_eq (by omega) (by omega)).mp e)) ?_
  refine ct_ic (nI_pos (by omega)) (nI_nlt (a := 100) (b := u) (by omega) (by omega)) (br_f (by decide) ?_)
  refine ct_ic (nI_pos (by omega)) (nI_nlt (a := 100) (b := v) (by omega) (by omega)) (br_f (by decide) ?_)
  rw [nI_clamp (show t < 2 ^ 31 by omega)]
  exact ⟨pk_in t 16 ht, nm_e ⟨pk_in t 16 ht, nm_e ⟨pk_in t 16 ht, nm_e ⟨pk_in t 16 ht, nm_e ⟨pk_in t 16 ht, nm_e H⟩⟩⟩⟩⟩
end
section
theorem ct_618 {post : Int32 → St0 → Prop} (hp : post 1 ()) {mc ms kc ks : Nat} {z0 z1 q : Int32} {a1 a2 a3 a4 a5 a6 a7 a8 a9 a10 : Nat → Int32} {a b x z : Nat} (hB : ct_B a b x 0 z a1 a2 a3 a4 a5 a6 a7) (hM : ct_M a b x 0 z 0 0) (e : z1 = z0) : wL_lawOf_618 post mc ms z0 z1 kc ks q a1 a2 a3 a4 a5 a6 a7 a8 a9 a10 := by
  unfold wL_lawOf_618
  refine br_t e ?_
  refine ct_tA (br_t rfl ?_)
  refine ct_tB (br_t rfl ?_)
  refine ct_cA (br_t rfl ?_)
  refine ct_cB (br_t rfl ?_)
  exact ct_least hB hM (fun q a8 a9 a10 => br_t rfl hp)
theorem ct_596 {post : Int32 → St0 → Prop} (hp : post 1 ()) {mc ms kc ks : Nat} {z0 z1 q : Int32} {a1 a2 a3 a4 a5 a6 a7 a8 a9 a10 : Nat → Int32} {a b x z : Nat} (hB : ct_B a b x 0 z a1 a2 a3 a4 a5 a6 a7) (hM : ct_M a b x 0 z 0 0) (e : z1 = z0) : wL_lawOf_596 post mc ms (nI z) z0 z1 kc ks q a1 a2 a3 a4 a5 a6 a7 a8 a9 a10 := by
  have hM' := hM
  unfold ct_M at hM'
  unfold wL_lawOf_596
  refine br_t e (ct_upper hB hM (fun q a8 a9 a10 => ?_))
  refine pk_eq z 0 (fun c => ct_618 hp hB hM ?_) (fun c => ct_618 hp hB hM ?_)
  · unfold ct_uv
    rw [if_neg (show ¬ b = 0 by omega), if_pos c]
  · unfold ct_uv
    rw [if_neg (show ¬ b = 0 by omega), if_neg c, if_pos rfl]
theorem ct_Sc {a1 a2 a3 a4 a5 a6 a7 : Nat → Int32} {a b x y z tb : Nat} (hS : ct_S a b x y z tb a1 a2 a3 a4 a5 a6 a7) : ct_S a b x y z 0 a1 a2 (upd a3 15 0) a4 a5 a6 a7 := by
  obtain ⟨s1, s2, s3, s4, s5, s6, s7⟩ := hS
  refine ⟨s1, s2, fun j hj => ?_, s4, s5, s6, s7⟩
  by_cases e : j = 15
  · subst e
    rw [pk_us]
    rfl
  · rw [pk_un e, s3 j hj, ct_chc, ct_chc, ct_chc, if_neg e, ct_chc, ct_chc, ct_chc, if_neg e]
theorem ct_388 {post : Int32 → St0 → Prop} (hp : post 1 ()) {mc ms kc ks : Nat} {x15 z0 q : Int32} {a1 a2 a3 a4 a5 a6 a7 a8 a9 a10 : Nat → Int32} {a b x y z md m : Nat} (hS : ct_S a b x y z 1 a1 a2 a3 a4 a5 a6 a7) (hM : ct_M a b x y z md m) (hl : ct_lv a x y z m = x15) (hu : ct_uv b x y z m = z0 ||| 496) :
    wL_lawOf_388 post mc ms (nI a) (nI b) (nI x) (nI z) (nI md) (nI m) x15 z0 kc ks q a1 a2 a3 a4 a5 a6 a7 a8 a9 a10 := by
  have hM' := hM
  unfold ct_M at hM'
  have hB := ct_B1 hS (by omega)
  have hS1 := ct_Sc hS
  have hS2 := ct_Sc hS1
  have hB2 := ct_B0 hS2 (by omega)
  have hM2 : ct_M a b x 0 z 0 0 := by
    unfold ct_M
    omega
  have hM3 := hM2
  unfold wL_lawOf_388
  refine ct_lower hB hM (fun q a8 a9 a10 => br_t hl ?_)
  refine ct_upper hB hM (fun q a8 a9 a10 => br_t hu (nm_r (nI_add a b) ?_))
  refine ct_w00 hB hM (fun q a8 a9 a10 => br_f (nI_nlt (Nat.le_refl a) (by omega)) ?_)
  refine ct_w31 hB hM (fun q a8 a9 a10 => br_f (nI_nlt (Nat.le_refl b) (by omega)) ?_)
  refine ct_w01 hB hM (fun q a8 a9 a10 => ct_lst (by omega) (by omega) (br_t rfl ?_))
  refine ct_w30 hB hM (fun q a8 a9 a10 => ct_lst (by omega) (by omega) (br_t rfl ?_))
  refine ct_p03 hB hM (fun q a8 a9 a10 => ct_lst (by omega) (by omega) (br_t rfl ?_))
  refine ct_p45 hB hM (fun q a8 a9 a10 => br_t rfl ?_)
  refine ct_p44 (br_t rfl ?_)
  refine ct_w90 (br_t rfl ?_)
  refine ct_cut 1 (hS.2.2.1 15 (by omega)) (by omega) (br_t rfl ?_)
  refine ct_cut 0 (hS1.2.2.1 15 (by omega)) (by omega) (br_t rfl ?_)
  refine ct_c16 (br_t rfl ?_)
  refine ct_least hB2 hM2 (fun q a8 a9 a10 => br_t rfl ?_)
  refine ct_lower hB2 hM2 (fun q a8 a9 a10 => ?_)
  refine pk_eq x 0 (fun c => ct_596 hp hB2 hM2 ?_) (fun c => ct_596 hp hB2 hM2 ?_)
  · unfold ct_lv
    rw [if_neg (show ¬ a = 0 by omega), if_pos c]
  · unfold ct_lv
    rw [if_neg (show ¬ a = 0 by omega), if_neg c, if_pos rfl]
theorem ct_339 {post : Int32 → St0 → Prop} (hp : post 1 ()) {mc ms kc ks : Nat} {z0 q : Int32} {a1 a2 a3 a4 a5 a6 a7 a8 a9 a10 : Nat → Int32} {a b x y z md m : Nat} (hS : ct_S a b x y z 1 a1 a2 a3 a4 a5 a6 a7) (hM : ct_M a b x y z md m) (hl : ct_lv a x y z m = z0) :
    wL_lawOf_339 post mc ms (nI a) (nI b) (nI x) (nI y) (nI z) (nI md) (nI m) z0 kc ks q a1 a2 a3 a4 a5 a6 a7 a8 a9 a10 := by
  have hM' := hM
  unfold ct_M at hM'
  unfold wL_lawOf_339
  refine pk_eq b m (fun c1 => ct_388 hp hS hM hl ?_) (fun c1 => pk_eq z m (fun c2 => ct_388 hp hS hM hl ?_) (fun c2 => pk_eq y m (fun c3 => ct_388 hp hS hM hl ?_) (fun c3 => pk_eq x m (fun c4 => ct_388 hp hS hM hl ?_) (fun c4 => ct_388 hp hS hM hl ?_))))
  · unfold ct_uv
    rw [if_pos c1]
    rfl
  · unfold ct_uv
    rw [if_neg c1, if_pos c2]
    rfl
  · unfold ct_uv
    rw [if_neg c1, if_neg c2, if_pos c3]
    rfl
  · unfold ct_uv
    rw [if_neg c1, if_neg c2, if_neg c3, if_pos c4]
    rfl
  · unfold ct_uv
    rw [if_neg c1, if_neg c2, if_neg c3, if_neg c4]
    rfl
theorem ct_a (p : Int32) : ∃ a : Nat, 1 ≤ a ∧ a ≤ 100 ∧ 1 + ((p &&& 255) - (p &&& 255) / 100 * 100) = nI a := by
  obtain ⟨j, hj, e⟩ := pk_andE p (m := 255) 8 (by decide)
  refine ⟨1 + j % 100, by omega, by omega, ?_⟩
  rw [e, show (100 : Int32) = nI 100 from rfl, pk_rem (by omega) (by omega) (by omega)]
  exact nI_add 1 (j % 100)
theorem ct_x (p : Int32) : ∃ x : Nat, x ≤ 100 ∧ (p &&& 255) - (p &&& 255) / 101 * 101 = nI x := by
  obtain ⟨j, hj, e⟩ := pk_andE p (m := 255) 8 (by decide)
  refine ⟨j % 101, by omega, ?_⟩
  rw [e, show (101 : Int32) = nI 101 from rfl, pk_rem (by omega) (by omega) (by omega)]
/-- the costs and ties that the law sets -/
theorem ct_S1 (a b x y z : Nat) : ct_S a b x y z 1 (upd (upd (fun _ => 0) 0 (nI a)) 3 (nI 0)) (upd (upd (fun _ => 0) 0 (nI 0)) 3 (nI b)) (upd (upd (upd (fun _ => 0) 0 1) 15 1) 7 1) (upd (upd (upd (fun _ => 0) 0 (nI 0)) 15 (nI 1)) 7 (nI 3))
    (upd (upd (upd (fun _ => 0) 0 (nI 1)) 15 (nI 2)) 7 (nI 2)) (upd (upd (upd (fun _ => 0) 0 (nI 9)) 15 (nI 0)) 7 (nI z)) (upd (upd (upd (fun _ => 0) 0 (nI x)) 15 (nI y)) 7 (nI 50)) := by
  refine ⟨fun j hj => ?_, fun j hj => ?_, fun j hj => ?_, fun j hj => ?_, fun j hj => ?_, fun j hj => ?_, fun j hj => ?_⟩
  · by_cases e3 : j = 3
    · subst e3; rfl
    by_cases e0 : j = 0
    · subst e0; rfl
    rw [pk_un e3, pk_un e0, ct_chc, if_neg e0]
    rfl
  · by_cases e3 : j = 3
    · subst e3; rfl
    by_cases e0 : j = 0
    · subst e0; rfl
    rw [pk_un e3, pk_un e0, ct_chc, if_neg e3]
    rfl
  all_goals
    by_cases e7 : j = 7
    · subst e7; rfl
    by_cases e15 : j = 15
    · subst e15; rfl
    by_cases e0 : j = 0
    · subst e0; rfl
    rw [pk_un e7, pk_un e15, pk_un e0]
    simp only [ct_chc, if_neg e7, if_neg e15, if_neg e0]
    rfl
theorem ct_law {post : Int32 → St0 → Prop} (hp : post 1 ()) (p0 p1 p2 p3 p4 : Int32) : wpL_lawOf post 144 2304 () p0 p1 p2 p3 p4 := by
  obtain ⟨a, ha1, ha2, ea⟩ := ct_a p0
  obtain ⟨b, hb1, hb2, eb⟩ := ct_a p1
  obtain ⟨x, hx, ex⟩ := ct_x p2
  obtain ⟨y, hy, ey⟩ := ct_x p3
  obtain ⟨z, hz, ez⟩ := ct_x p4
  have i1 := ct_mip a b
  have i2 := ct_mip y z
  have i3 := ct_mip x (ct_mi y z)
  have i4 := ct_mip (ct_mi a b) (ct_mi x (ct_mi y z))
  have hM : ct_M a b x y z (ct_mi x (ct_mi y z)) (ct_mi (ct_mi a b) (ct_mi x (ct_mi y z))) := by
    unfold ct_M
    omega
  have hS := ct_S1 a b x y z
  have hB := ct_B1 hS (by omega)
  unfold wpL_lawOf
  refine ⟨by omega, by omega, 10, 241, by omega, by omega, ?_⟩
  unfold wpX_init
  refine ⟨by omega, by omega, by omega, by omega, by omega, by omega, by omega, by omega, by omega, by omega, by omega, by omega, by omega, by omega, by omega, by omega, by omega, by omega, by omega, by omega, ?_⟩
  refine ⟨by decide, nm_r ea ⟨by decide, nm_r eb ⟨by decide, nm_r ex ⟨by decide, nm_r ey ⟨by decide, nm_r ez ?_⟩⟩⟩⟩⟩
  refine ct_cI 0 a 0 (by omega) (by omega) (by omega) (br_t rfl ?_)
  refine ct_cI 3 0 b (by omega) (by omega) (by omega) (br_t rfl ?_)
  refine ct_tI 0 0 1 9 x (by omega) (by omega) (by omega) (by omega) (by omega) (by omega) (br_t rfl ?_)
  refine ct_tI 15 1 2 0 y (by omega) (by omega) (by omega) (by omega) (by omega) (by omega) (br_t rfl ?_)
  refine ct_tI 7 3 2 z 50 (by omega) (by omega) (by omega) (by omega) (by omega) (by omega) (br_t rfl ?_)
  refine ct_lst (by omega) (by omega) (ct_lst (by omega) (by omega) (ct_lst (by omega) (by omega) (ct_lst (by omega) (by omega) ?_)))
  refine ct_least hB hM (fun q a8 a9 a10 => br_t rfl ?_)
  refine ct_energy 0 a hS (by decide +kernel) (ct_v0 a b x y z) (br_t rfl ?_)
  refine ct_energy 15 b hS (by decide +kernel) (ct_v15 a b x y z) (br_t rfl ?_)
  refine ct_energy 1 x hS (by decide +kernel) (ct_v1 a b x y z) (br_t rfl ?_)
  refine ct_energy 3 y hS (by decide +kernel) (ct_v3 a b x y z) (br_t rfl ?_)
  refine ct_energy 7 z hS (by decide +kernel) (ct_v7 a b x y z) (br_t rfl ?_)
  refine ct_energy 14 (a + b + 9) hS (by decide +kernel) (ct_v14 a b x y z) (br_t (by rw [nI_add a b]; exact (nI_add (a + b) 9).symm) ?_)
  refine ct_energy 8 (a + b + 50) hS (by decide +kernel) (ct_v8 a b x y z) (br_t (by rw [nI_add a b]; exact (nI_add (a + b) 50).symm) ?_)
  refine ct_energy 496 a hS (by decide +kernel) (ct_v496 a b x y z) (br_t rfl ?_)
  generalize ct_mi x (ct_mi y z) = md at hM i3 i4
  generalize ct_mi (ct_mi a b) md = m at hM i4
  refine pk_eq a m (fun c1 => ct_339 hp hS hM ?_) (fun c1 => pk_eq x m (fun c2 => ct_339 hp hS hM ?_) (fun c2 => pk_eq y m (fun c3 => ct_339 hp hS hM ?_) (fun c3 => pk_eq z m (fun c4 => ct_339 hp hS hM ?_) (fun c4 => ct_339 hp hS hM ?_))))
  · unfold ct_lv
    rw [if_pos c1]
  · unfold ct_lv
    rw [if_neg c1, if_pos c2]
  · unfold ct_lv
    rw [if_neg c1, if_neg c2, if_pos c3]
  · unfold ct_lv
    rw [if_neg c1, if_neg c2, if_neg c3, if_pos c4]
  · unfold ct_lv
    rw [if_neg c1, if_neg c2, if_neg c3, if_neg c4]
theorem ct_cell {post : Int32 → Prop} {L : Nat} {xs : Nat → Int32} (i : Nat) (hL : L ≤ 5) (hi : i < 5) (H : ∀ v, post v) : wpL_cellAt post L xs () (nI i) :=
  pk_le L i (fun _ => H 0) (fun h => ⟨pk_in i L h, H _⟩)
theorem i_vc (xs : Nat → Int32) (L : Nat) (hL : L ≤ 5) : wpL_law (fun r => r = 1) L xs := by
  unfold wpL_law
  exact ct_cell 0 hL (by omega) (fun v0 => ct_cell 1 hL (by omega) (fun v1 => ct_cell 2 hL (by omega) (fun v2 => ct_cell 3 hL (by omega) (fun v3 => ct_cell 4 hL (by omega) (fun v4 => ⟨144, 2304, by omega, by omega, ct_law rfl v0 v1 v2 v3 v4⟩)))))
end
