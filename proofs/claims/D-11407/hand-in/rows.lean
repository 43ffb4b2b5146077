section
/-! small facts of ints, by the kernel -/
theorem dk_i8 : ∀ k, k < 128 → (nI k).toInt8.toInt32 = nI k := by decide +kernel
theorem dk_i8m : (-1 : Int32).toInt8.toInt32 = -1 := by decide +kernel
theorem dk_bit3 : ∀ j, j < 6 → ((((3 : Int32) >>> (nI j &&& 31)) &&& 1) = 0 ↔ 2 ≤ j) := by decide +kernel
theorem dk_bit1 : ∀ j, j < 6 → ((((1 : Int32) >>> (nI j &&& 31)) &&& 1) = 0 ↔ 1 ≤ j) := by decide +kernel
theorem dk_bit0 : ∀ t, t < 24 → (((0 : Int32) >>> (nI t &&& 31)) &&& 1) = 0 := by decide +kernel
theorem dk_bits : ∀ j, j < 2 → ∀ c, c < 2 → (((nI (j + 1) >>> (nI c &&& 31)) &&& 1) = 0 ↔ c ≠ j) := by decide +kernel
theorem dk_or : ∀ j, j < 2 → ∀ c, c < 2 → c ≠ j → nI (j + 1) ||| ((1 : Int32) <<< (nI c &&& 31)) = 3 := by decide +kernel
theorem dk_shl : ∀ j, j < 2 → (1 : Int32) <<< (nI j &&& 31) = nI (j + 1) := by decide +kernel
theorem dk_mask : ∀ s, s < 25 → ∀ t, t < 24 → (((((0 : Int32) ||| (((1 : Int32) <<< (nI s &&& 31)) - 1)) >>> (nI t &&& 31)) &&& 1) = 0 ↔ s ≤ t) := by decide +kernel
theorem dk_nm1 : ∀ c, c < 2 → ¬ nI c = -1 := by decide +kernel
theorem dk_span : ∀ e, e < 18 → 6 ≤ e → ∀ t, t < 24 → (((((((1 : Int32) <<< (nI e &&& 31)) - 1) &&& ((((1 : Int32) <<< ((5 : Int32) &&& 31)) - 1) ^^^ (-1))) &&& ((0 : Int32) ^^^ (-1))) >>> (nI t &&& 31)) &&& 1) = nI (min (t + 1) e - 5 - (min t e - 5)) := by decide +kernel
theorem dk_pkd : ∀ a, a < 7 → ∀ u, u < 10 → 0 < u → (¬ 6 < (nI (8 * a + 64 * u) &&& 7) ∧ ¬ 6 < ((nI (8 * a + 64 * u) >>> ((3 : Int32) &&& 31)) &&& 7) ∧ (nI (8 * a + 64 * u) &&& 7).toInt8.toInt32 = 0 ∧ ((nI (8 * a + 64 * u) >>> ((3 : Int32) &&& 31)) &&& 7).toInt8.toInt32 = nI a ∧ nI (8 * a + 64 * u) >>> ((6 : Int32) &&& 31) = nI u) := by decide +kernel
/-- one more place of an array is as told -/
theorem dk_fill {f : Nat → Int32} {s : Nat → Int32} {i k : Nat} {x : Int32} (hk : k = i) (h : ∀ j, j < i → s j = f j) (hx : x = f i) : ∀ j, j < i + 1 → upd s k x j = f j := by
  intro j hj
  rw [hk]
  by_cases e : j = i
  · rw [e, pk_us, hx]
  · rw [pk_un e]
    exact h j (by omega)
/-- the owners: from lo on, below p given to task 0 or 1, from p to e free -/
def dk_O (lo p e : Nat) (f : Nat → Int32) : Prop := ∀ t, lo ≤ t → t < e → (t < p → f t = nI 0 ∨ f t = nI 1) ∧ (p ≤ t → f t = -1)
theorem dk_O_0 {lo e : Nat} {f : Nat → Int32} (he : e ≤ 24) (h : ∀ t, t < 24 → f t = -1) : dk_O lo lo e f :=
  fun t h1 h2 => ⟨fun z => absurd z (by omega), fun _ => h t (by omega)⟩
theorem dk_01 {j : Nat} (hj : j < 2) {x : Int32} (h : x = nI j) : x = nI 0 ∨ x = nI 1 := by
  rcases (show j = 0 ∨ j = 1 by omega) with r | r
  · exact Or.inl (by rw [h, r])
  · exact Or.inr (by rw [h, r])
theorem dk_10 {x : Int32} (h : x = nI 0 ∨ x = nI 1) : ∃ j, j < 2 ∧ x = nI j := by
  rcases h with r | r
  · exact ⟨0, by omega, r⟩
  · exact ⟨1, by omega, r⟩
theorem dk_O_s {lo p e j : Nat} {f : Nat → Int32} (hj : j < 2) (h : dk_O lo p e f) : dk_O lo (p + 1) e (upd f p (nI j)) := by
  intro t h1 h2
  by_cases e1 : t = p
  · rw [e1]
    refine ⟨fun _ => ?_, fun z => absurd z (by omega)⟩
    exact dk_01 hj pk_us
  · rw [pk_un e1]
    exact ⟨fun z => (h t h1 h2).1 (by omega), fun z => (h t h1 h2).2 (by omega)⟩
/-- the units that are shut within the window: those below lo -/
def dk_S (lo e : Nat) (sh : Int32) : Prop := ∀ t, 5 ≤ t → t < e → (((sh >>> (nI t &&& 31)) &&& 1) = 0 ↔ lo ≤ t)
theorem dk_S_0 {e : Nat} (he : e ≤ 24) : dk_S 5 e 0 := fun t h1 h2 => ⟨fun _ => h1, fun _ => dk_bit0 t (by omega)⟩
theorem dk_S_m {s e : Nat} (hs : s < 25) (he : e ≤ 24) : dk_S s e ((0 : Int32) ||| (((1 : Int32) <<< (nI s &&& 31)) - 1)) := fun t _ h2 => dk_mask s hs t (by omega)
/-- both tasks have the window from 5 to e -/
def dk_W (e : Nat) (f1 f2 : Nat → Int32) : Prop := ∀ j, j < 2 → f1 j = nI 5 ∧ f2 j = nI e
/-- the line of a search that began with task j -/
def dk_L (j : Nat) (rc le : Int32) (f7 f8 f9 : Nat → Int32) : Prop := f7 0 = nI j ∧ f8 j = -1 ∧ f9 j = -1 ∧ ((rc = nI (j + 1) ∧ le = 1) ∨ (rc = 3 ∧ le = 2 ∧ (f7 1 = nI 0 ∨ f7 1 = nI 1)))
theorem dk_L_0 {j : Nat} {f7 f8 f9 : Nat → Int32} : dk_L j (nI (j + 1)) 1 (upd f7 0 (nI j)) (upd f8 j (-1)) (upd f9 j (-1)) := ⟨pk_us, pk_us, pk_us, Or.inl ⟨rfl, rfl⟩⟩
/-- the bit of a reached task -/
theorem dk_L_bit {j c : Nat} {rc le : Int32} {f7 f8 f9 : Nat → Int32} (hj : j < 2) (hc : c < 2) (h : dk_L j rc le f7 f8 f9) (hcj : c = j ∨ rc = 3) : ¬ ((rc >>> (nI c &&& 31)) &&& 1) = 0 := by
  rcases h.2.2.2 with ⟨r, _⟩ | ⟨r, _, _⟩
  · rcases hcj with q | q
    · rw [r]
      exact fun z => ((dk_bits j hj c hc).mp z) q
    · rw [q]
      exact fun z => absurd ((dk_bit3 c (by omega)).mp z) (by omega)
  · rw [r]
    exact fun z => absurd ((dk_bit3 c (by omega)).mp z) (by omega)
theorem dk_L_s {j c : Nat} {rc le x y : Int32} {f7 f8 f9 : Nat → Int32} (hc : c < 2) (hcj : c ≠ j) (h : dk_L j rc le f7 f8 f9) : dk_L j 3 2 (upd f7 1 (nI c)) (upd f8 c x) (upd f9 c y) := by
  refine ⟨?_, ?_, ?_, Or.inr ⟨rfl, rfl, dk_01 hc pk_us⟩⟩
  · rw [pk_un (by omega)]
    exact h.1
  · rw [pk_un (fun z => hcj z.symm)]
    exact h.2.1
  · rw [pk_un (fun z => hcj z.symm)]
    exact h.2.2.1
end
section
theorem dk_has {post : Int32 → Prop} {pr bl sh rc le kn ll : Int32} {a1 a2 a3 a4 a5 a6 a7 a8 a9 a10 a11 a12 : Nat → Int32} {j : Nat} (hj : j < 6) (H : (((pr >>> (nI j &&& 31)) &&& 1) = 0 → post 0) ∧ (¬ ((pr >>> (nI j &&& 31)) &&& 1) = 0 → post 1)) : wpX_has post (pr, bl, sh, rc, le, kn, ll, a1, a2, a3, a4, a5, a6, a7, a8, a9, a10, a11, a12) (nI j) :=
  br_f (nI_pos (by omega)) (pk_le 6 j (fun z => absurd z (by omega)) (fun _ => H))
theorem dk_win {post : Int32 → Prop} {pr bl sh rc le kn ll : Int32} {a1 a2 a3 a4 a5 a6 a7 a8 a9 a10 a11 a12 : Nat → Int32} {lo e x t : Nat} (hx : x < 2) (he : e ≤ 24) (ht : t < 24) (hl : 5 ≤ lo) (hW : dk_W e a1 a2) (hS : dk_S lo e sh)
    (H0 : (t < lo ∨ e ≤ t) → post 0) (H1 : lo ≤ t → t < e → post 1) : wpX_inWindow post (pr, bl, sh, rc, le, kn, ll, a1, a2, a3, a4, a5, a6, a7, a8, a9, a10, a11, a12) (nI x) (nI t) := by
  have c : (nI x).toNatClampNeg = x := nI_clamp (by omega)
  have c1 : a1 (nI x).toNatClampNeg = nI 5 := by rw [c]; exact (hW x hx).1
  have c2 : a2 (nI x).toNatClampNeg = nI e := by rw [c]; exact (hW x hx).2
  exact ⟨pk_in x 6 (by omega), pk_lt t 5 (fun z => H0 (by omega)) (fun z => ⟨pk_in x 6 (by omega), pk_le e t (fun z2 => H0 (by omega)) (fun z2 => ek_if (hS t z z2) (fun z3 => H1 z3 z2) (fun z3 => H0 (by omega))) (hx := c2)⟩) (hy := c1)⟩
theorem dk_begin {post : St2 → Prop} {pr bl sh rc le kn ll : Int32} {a1 a2 a3 a4 a5 a6 a7 a8 a9 a10 a11 a12 : Nat → Int32} {x : Int32} (H : ∀ a6', (∀ t, t < 24 → a6' t = -1) → post (pr, bl, x, rc, le, kn, ll, a1, a2, a3, a4, a5, a6', a7, a8, a9, a10, a11, a12)) : wpX_begin post (pr, bl, sh, rc, le, kn, ll, a1, a2, a3, a4, a5, a6, a7, a8, a9, a10, a11, a12) x :=
  pk_loop (fun n i s => wX_begin_7 post pr bl x rc le kn ll n (nI i) a1 a2 a3 a4 a5 s a7 a8 a9 a10 a11 a12) (fun i s => ∀ j, j < i → s j = -1) 24 0 a6 (by omega) (fun j hj => absurd hj (by omega))
    (fun n s h => pk_le 24 24 (fun _ => H s h) (fun z => absurd z (by omega)))
    (fun n i s hi h hw => pk_le 24 i (fun z => absurd z (by omega)) (fun _ => ⟨pk_in i 24 hi, nm_e (nm_r (nI_1 i) (hw _ (dk_fill (f := fun _ => -1) (nI_clamp (by omega)) h rfl)))⟩))
theorem dk_look {post : Int32 → St2 → Prop} {pr bl sh rc le kn ll : Int32} {a1 a2 a3 a4 a5 a6 a7 a8 a9 a10 a11 a12 : Nat → Int32} {lo p e j x : Nat} (hj : j < 2) (hx : x < 2) (he : e ≤ 24) (hl : 5 ≤ lo) (hp : lo ≤ p) (hpe : p ≤ e) (hW : dk_W e a1 a2) (hS : dk_S lo e sh) (hO : dk_O lo p e a6) (hL : dk_L j rc le a7 a8 a9)
    (H0 : p = e → ∀ (rc' le' : Int32) (a7' a8' a9' : Nat → Int32), dk_L j rc' le' a7' a8' a9' → post (-1) (pr, bl, sh, rc', le', kn, ll, a1, a2, a3, a4, a5, a6, a7', a8', a9', a10, a11, a12))
    (H1 : p < e → ∀ (rc' le' : Int32) (a7' a8' a9' : Nat → Int32), dk_L j rc' le' a7' a8' a9' → post (nI p) (pr, bl, sh, rc', le', kn, ll, a1, a2, a3, a4, a5, a6, a7', a8', a9', a10, a11, a12)) : wpX_look post (pr, bl, sh, rc, le, kn, ll, a1, a2, a3, a4, a5, a6, a7, a8, a9, a10, a11, a12) (nI x) := by
  have c : (nI x).toNatClampNeg = x := nI_clamp (by omega)
  have c1 : a1 (nI x).toNatClampNeg = nI 5 := by rw [c]; exact (hW x hx).1
  have c2 : a2 (nI x).toNatClampNeg = nI e := by rw [c]; exact (hW x hx).2
  refine ⟨pk_in x 6 (by omega), nm_r c1 ?_⟩
  refine pk_loop (σ := Int32 × Int32 × (Nat → Int32) × (Nat → Int32) × (Nat → Int32)) (fun n i s => wX_look_7 post (nI x) pr bl sh kn ll n (nI i) s.1 s.2.1 a1 a2 a3 a4 a5 a6 s.2.2.1 s.2.2.2.1 s.2.2.2.2 a10 a11 a12) (fun _ s => dk_L j s.1 s.2.1 s.2.2.1 s.2.2.2.1 s.2.2.2.2) p 5 (rc, le, a7, a8, a9) (by omega) hL ?_ ?_
  · rintro n ⟨rc', le', a7', a8', a9'⟩ h
    show wX_look_7 post (nI x) pr bl sh kn ll (n + 1) (nI p) rc' le' a1 a2 a3 a4 a5 a6 a7' a8' a9' a10 a11 a12
    refine ⟨pk_in x 6 (by omega), pk_le e p (fun z => H0 (by omega) _ _ _ _ _ h) (fun z => ?_) (hx := c2)⟩
    refine dk_win hx he (by omega) hl hW hS (fun z2 => absurd z2 (by omega)) (fun z2 z3 => ?_)
    refine br_f (by decide) ⟨pk_in p 24 (by omega), nm_r (e' := -1) ?_ (br_t rfl (H1 z _ _ _ _ _ h))⟩
    rw [show (nI p).toNatClampNeg = p from nI_clamp (by omega)]
    exact (hO p hp z).2 (by omega)
  · rintro n i ⟨rc', le', a7', a8', a9'⟩ hi h hw
    have h : dk_L j rc' le' a7' a8' a9' := h
    show wX_look_7 post (nI x) pr bl sh kn ll (n + 1) (nI i) rc' le' a1 a2 a3 a4 a5 a6 a7' a8' a9' a10 a11 a12
    refine ⟨pk_in x 6 (by omega), pk_le e i (fun z => absurd z (by omega)) (fun z => ?_) (hx := c2)⟩
    refine dk_win hx he (by omega) hl hW hS (fun z2 => br_t rfl (nm_r (nI_1 i) (hw (rc', le', a7', a8', a9') h))) (fun z2 z3 => ?_)
    have ci : (nI i).toNatClampNeg = i := nI_clamp (by omega)
    obtain ⟨d, hd, ed⟩ := dk_10 ((hO i z2 z3).1 hi)
    have ed' : a6 (nI i).toNatClampNeg = nI d := by rw [ci]; exact ed
    refine br_f (by decide) ⟨pk_in i 24 (by omega), nm_r ed' (br_f (dk_nm1 d hd) ?_)⟩
    by_cases q : d = j ∨ rc' = 3
    · exact br_f (dk_L_bit hj hd h q) (nm_r (nI_1 i) (hw (rc', le', a7', a8', a9') h))
    · have q1 : d ≠ j := fun z => q (Or.inl z)
      have q2 : rc' = nI (j + 1) ∧ le' = 1 := by
        rcases h.2.2.2 with r | r
        · exact r
        · exact absurd (Or.inr r.1) q
      obtain ⟨r1, r2⟩ := q2
      subst r1 r2
      have cd : (nI d).toNatClampNeg = d := nI_clamp (by omega)
      have e7 : upd a7' (1 : Int32).toNatClampNeg (nI d).toInt8.toInt32 = upd a7' 1 (nI d) := by rw [dk_i8 d (by omega)]; rfl
      have e8 : upd a8' (nI d).toNatClampNeg (nI i).toInt8.toInt32 = upd a8' d (nI i) := by rw [dk_i8 i (by omega), cd]
      have e9 : upd a9' (nI d).toNatClampNeg (nI x).toInt8.toInt32 = upd a9' d (nI x) := by rw [dk_i8 x (by omega), cd]
      exact br_t ((dk_bits j hj d hd).mpr q1) (nm_r (dk_or j hj d hd q1) ⟨pk_in d 6 (by omega), nm_r e8 ⟨pk_in d 6 (by omega), nm_r e9 ⟨pk_in 1 8 (by omega), nm_r e7 (nm_r (e' := 2) rfl (nm_r (nI_1 i) (hw (3, 2, upd a7' 1 (nI d), upd a8' d (nI i), upd a9' d (nI x)) (dk_L_s hd q1 h))))⟩⟩⟩)
theorem dk_shift {post : St2 → Prop} {pr bl sh rc le kn ll : Int32} {a1 a2 a3 a4 a5 a6 a7 a8 a9 a10 a11 a12 : Nat → Int32} {j t : Nat} (hj : j < 2) (ht : t < 24) (h8 : a8 j = -1) (h9 : a9 j = -1) (H : post (pr, bl, sh, rc, le, kn, ll, a1, a2, a3, a4, a5, upd a6 t (nI j), a7, a8, a9, a10, a11, a12)) : wpX_shift post (pr, bl, sh, rc, le, kn, ll, a1, a2, a3, a4, a5, a6, a7, a8, a9, a10, a11, a12) (nI j) (nI t) := by
  have cj : (nI j).toNatClampNeg = j := nI_clamp (by omega)
  have ct : (nI t).toNatClampNeg = t := nI_clamp (by omega)
  have e6 : upd a6 (nI t).toNatClampNeg (nI j).toInt8.toInt32 = upd a6 t (nI j) := by rw [ct, dk_i8 j (by omega)]
  have e8 : a8 (nI j).toNatClampNeg = -1 := by rw [cj]; exact h8
  have e9 : a9 (nI j).toNatClampNeg = -1 := by rw [cj]; exact h9
  exact ⟨2, pk_le 6 0 (fun z => absurd z (by omega)) (fun _ => br_f (nI_pos (by omega)) ⟨pk_in t 24 ht, nm_r e6 ⟨pk_in j 6 (by omega), nm_r e8 ⟨pk_in j 6 (by omega), nm_r e9 (nm_r (nI_1 0) (pk_le 6 1 (fun z => absurd z (by omega)) (fun _ => br_t (by decide) H)))⟩⟩⟩)⟩
theorem dk_give {post : Int32 → St2 → Prop} {pr bl sh rc le kn ll : Int32} {a1 a2 a3 a4 a5 a6 a7 a8 a9 a10 a11 a12 : Nat → Int32} {lo p e j : Nat} (hj : j < 2) (he : e ≤ 24) (hl : 5 ≤ lo) (hp : lo ≤ p) (hpe : p ≤ e) (hW : dk_W e a1 a2) (hS : dk_S lo e sh) (hO : dk_O lo p e a6)
    (H0 : p = e → ∀ (rc' le' : Int32) (a7' a8' a9' : Nat → Int32), post 0 (pr, bl, sh, rc', le', kn, ll, a1, a2, a3, a4, a5, a6, a7', a8', a9', a10, a11, a12))
    (H1 : p < e → ∀ (rc' le' : Int32) (a6' a7' a8' a9' : Nat → Int32), dk_O lo (p + 1) e a6' → post 1 (pr, bl, sh, rc', le', kn, ll, a1, a2, a3, a4, a5, a6', a7', a8', a9', a10, a11, a12)) : wpX_give post (pr, bl, sh, rc, le, kn, ll, a1, a2, a3, a4, a5, a6, a7, a8, a9, a10, a11, a12) (nI j) := by
  have cj : (nI j).toNatClampNeg = j := nI_clamp (by omega)
  have e7 : upd a7 0 (nI j).toInt8.toInt32 = upd a7 0 (nI j) := by rw [dk_i8 j (by omega)]
  have e8 : upd a8 (nI j).toNatClampNeg (-1) = upd a8 j (-1) := by rw [cj]
  have e9 : upd a9 (nI j).toNatClampNeg (-1) = upd a9 j (-1) := by rw [cj]
  refine nm_r (dk_shl j hj) (nm_r e7 ⟨pk_in j 6 (by omega), nm_r e8 ⟨pk_in j 6 (by omega), nm_r e9 ⟨3, ?_⟩⟩⟩)
  refine pk_le 1 0 (fun z => absurd z (by omega)) (fun _ => pk_le 6 0 (fun z => absurd z (by omega)) (fun _ => ⟨pk_in 0 8 (by omega), ?_⟩))
  have ea : upd a7 0 (nI j) (0 : Int32).toNatClampNeg = nI j := pk_us
  rw [ea]
  refine dk_look hj hj he hl hp hpe hW hS hO dk_L_0 (fun z rc' le' a7' a8' a9' h => ?_) (fun z rc' le' a7' a8' a9' h => ?_)
  · refine br_t (by decide) (nm_r (nI_1 0) ?_)
    rcases h.2.2.2 with ⟨r1, r2⟩ | ⟨r1, r2, r3⟩
    · subst r2
      exact pk_le 1 1 (fun _ => H0 z _ _ _ _ _) (fun z => absurd z (by omega))
    · subst r2
      refine pk_le 2 1 (fun z => absurd z (by omega)) (fun _ => pk_le 6 1 (fun z => absurd z (by omega)) (fun _ => ⟨pk_in 1 8 (by omega), ?_⟩))
      obtain ⟨x, hx, ex⟩ := dk_10 r3
      have ex' : a7' (nI (0 + 1)).toNatClampNeg = nI x := ex
      rw [ex']
      refine dk_look hj hx he hl hp hpe hW hS hO h (fun _ rc'' le'' a7'' a8'' a9'' h' => ?_) (fun z2 => absurd z2 (by omega))
      refine br_t (by decide) (nm_r (nI_1 1) ?_)
      rcases h'.2.2.2 with ⟨r4, r5⟩ | ⟨r4, r5, r6⟩
      · subst r5
        exact pk_le 1 2 (fun _ => H0 z _ _ _ _ _) (fun z => absurd z (by omega))
      · subst r5
        exact pk_le 2 2 (fun _ => H0 z _ _ _ _ _) (fun z => absurd z (by omega))
  · refine br_f (nI_pos (by omega)) ⟨pk_in 0 8 (by omega), ?_⟩
    have e7' : a7' (0 : Int32).toNatClampNeg = nI j := h.1
    rw [e7']
    exact dk_shift hj (by omega) h.2.1 h.2.2.1 (H1 z _ _ _ _ _ _ (dk_O_s hj hO))
theorem dk_begin_2 {post : St2 → Prop} {pr bl sh rc le kn ll : Int32} {a1 a2 a3 a4 a5 a6 a7 a8 a9 a10 a11 a12 : Nat → Int32} {x : Int32} (H : ∀ a6', (∀ t, t < 24 → a6' t = -1) → post (pr, bl, x, rc, le, kn, ll, a1, a2, a3, a4, a5, a6', a7, a8, a9, a10, a11, a12)) : wpX_begin_2 post (pr, bl, sh, rc, le, kn, ll, a1, a2, a3, a4, a5, a6, a7, a8, a9, a10, a11, a12) x :=
  pk_loop (fun n i s => wX_begin_2_7 post pr bl x rc le kn ll n (nI i) a1 a2 a3 a4 a5 s a7 a8 a9 a10 a11 a12) (fun i s => ∀ j, j < i → s j = -1) 24 0 a6 (by omega) (fun j hj => absurd hj (by omega))
    (fun n s h => pk_le 24 24 (fun _ => H s h) (fun z => absurd z (by omega)))
    (fun n i s hi h hw => pk_le 24 i (fun z => absurd z (by omega)) (fun _ => ⟨pk_in i 24 hi, nm_e (nm_r (nI_1 i) (hw _ (dk_fill (f := fun _ => -1) (nI_clamp (by omega)) h rfl)))⟩))
theorem dk_look_2 {post : Int32 → St2 → Prop} {pr bl sh rc le kn ll : Int32} {a1 a2 a3 a4 a5 a6 a7 a8 a9 a10 a11 a12 : Nat → Int32} {lo p e j x : Nat} (hj : j < 2) (hx : x < 2) (he : e ≤ 24) (hl : 5 ≤ lo) (hp : lo ≤ p) (hpe : p ≤ e) (hW : dk_W e a1 a2) (hS : dk_S lo e sh) (hO : dk_O lo p e a6) (hL : dk_L j rc le a7 a8 a9)
    (H0 : p = e → ∀ (rc' le' : Int32) (a7' a8' a9' : Nat → Int32), dk_L j rc' le' a7' a8' a9' → post (-1) (pr, bl, sh, rc', le', kn, ll, a1, a2, a3, a4, a5, a6, a7', a8', a9', a10, a11, a12))
    (H1 : p < e → ∀ (rc' le' : Int32) (a7' a8' a9' : Nat → Int32), dk_L j rc' le' a7' a8' a9' → post (nI p) (pr, bl, sh, rc', le', kn, ll, a1, a2, a3, a4, a5, a6, a7', a8', a9', a10, a11, a12)) : wpX_look_2 post (pr, bl, sh, rc, le, kn, ll, a1, a2, a3, a4, a5, a6, a7, a8, a9, a10, a11, a12) (nI x) := by
  have c : (nI x).toNatClampNeg = x := nI_clamp (by omega)
  have c1 : a1 (nI x).toNatClampNeg = nI 5 := by rw [c]; exact (hW x hx).1
  have c2 : a2 (nI x).toNatClampNeg = nI e := by rw [c]; exact (hW x hx).2
  refine ⟨pk_in x 6 (by omega), nm_r c1 ?_⟩
  refine pk_loop (σ := Int32 × Int32 × (Nat → Int32) × (Nat → Int32) × (Nat → Int32)) (fun n i s => wX_look_2_7 post (nI x) pr bl sh kn ll n (nI i) s.1 s.2.1 a1 a2 a3 a4 a5 a6 s.2.2.1 s.2.2.2.1 s.2.2.2.2 a10 a11 a12) (fun _ s => dk_L j s.1 s.2.1 s.2.2.1 s.2.2.2.1 s.2.2.2.2) p 5 (rc, le, a7, a8, a9) (by omega) hL ?_ ?_
  · rintro n ⟨rc', le', a7', a8', a9'⟩ h
    show wX_look_2_7 post (nI x) pr bl sh kn ll (n + 1) (nI p) rc' le' a1 a2 a3 a4 a5 a6 a7' a8' a9' a10 a11 a12
    refine ⟨pk_in x 6 (by omega), pk_le e p (fun z => H0 (by omega) _ _ _ _ _ h) (fun z => ?_) (hx := c2)⟩
    refine dk_win hx he (by omega) hl hW hS (fun z2 => absurd z2 (by omega)) (fun z2 z3 => ?_)
    refine br_f (by decide) ⟨pk_in p 24 (by omega), nm_r (e' := -1) ?_ (br_t rfl (H1 z _ _ _ _ _ h))⟩
    rw [show (nI p).toNatClampNeg = p from nI_clamp (by omega)]
    exact (hO p hp z).2 (by omega)
  · rintro n i ⟨rc', le', a7', a8', a9'⟩ hi h hw
    have h : dk_L j rc' le' a7' a8' a9' := h
    show wX_look_2_7 post (nI x) pr bl sh kn ll (n + 1) (nI i) rc' le' a1 a2 a3 a4 a5 a6 a7' a8' a9' a10 a11 a12
    refine ⟨pk_in x 6 (by omega), pk_le e i (fun z => absurd z (by omega)) (fun z => ?_) (hx := c2)⟩
    refine dk_win hx he (by omega) hl hW hS (fun z2 => br_t rfl (nm_r (nI_1 i) (hw (rc', le', a7', a8', a9') h))) (fun z2 z3 => ?_)
    have ci : (nI i).toNatClampNeg = i := nI_clamp (by omega)
    obtain ⟨d, hd, ed⟩ := dk_10 ((hO i z2 z3).1 hi)
    have ed' : a6 (nI i).toNatClampNeg = nI d := by rw [ci]; exact ed
    refine br_f (by decide) ⟨pk_in i 24 (by omega), nm_r ed' (br_f (dk_nm1 d hd) ?_)⟩
    by_cases q : d = j ∨ rc' = 3
    · exact br_f (dk_L_bit hj hd h q) (nm_r (nI_1 i) (hw (rc', le', a7', a8', a9') h))
    · have q1 : d ≠ j := fun z => q (Or.inl z)
      have q2 : rc' = nI (j + 1) ∧ le' = 1 := by
        rcases h.2.2.2 with r | r
        · exact r
        · exact absurd (Or.inr r.1) q
      obtain ⟨r1, r2⟩ := q2
      subst r1 r2
      have cd : (nI d).toNatClampNeg = d := nI_clamp (by omega)
      have e7 : upd a7' (1 : Int32).toNatClampNeg (nI d).toInt8.toInt32 = upd a7' 1 (nI d) := by rw [dk_i8 d (by omega)]; rfl
      have e8 : upd a8' (nI d).toNatClampNeg (nI i).toInt8.toInt32 = upd a8' d (nI i) := by rw [dk_i8 i (by omega), cd]
      have e9 : upd a9' (nI d).toNatClampNeg (nI x).toInt8.toInt32 = upd a9' d (nI x) := by rw [dk_i8 x (by omega), cd]
      exact br_t ((dk_bits j hj d hd).mpr q1) (nm_r (dk_or j hj d hd q1) ⟨pk_in d 6 (by omega), nm_r e8 ⟨pk_in d 6 (by omega), nm_r e9 ⟨pk_in 1 8 (by omega), nm_r e7 (nm_r (e' := 2) rfl (nm_r (nI_1 i) (hw (3, 2, upd a7' 1 (nI d), upd a8' d (nI i), upd a9' d (nI x)) (dk_L_s hd q1 h))))⟩⟩⟩)
theorem dk_shift_2 {post : St2 → Prop} {pr bl sh rc le kn ll : Int32} {a1 a2 a3 a4 a5 a6 a7 a8 a9 a10 a11 a12 : Nat → Int32} {j t : Nat} (hj : j < 2) (ht : t < 24) (h8 : a8 j = -1) (h9 : a9 j = -1) (H : post (pr, bl, sh, rc, le, kn, ll, a1, a2, a3, a4, a5, upd a6 t (nI j), a7, a8, a9, a10, a11, a12)) : wpX_shift_2 post (pr, bl, sh, rc, le, kn, ll, a1, a2, a3, a4, a5, a6, a7, a8, a9, a10, a11, a12) (nI j) (nI t) := by
  have cj : (nI j).toNatClampNeg = j := nI_clamp (by omega)
  have ct : (nI t).toNatClampNeg = t := nI_clamp (by omega)
  have e6 : upd a6 (nI t).toNatClampNeg (nI j).toInt8.toInt32 = upd a6 t (nI j) := by rw [ct, dk_i8 j (by omega)]
  have e8 : a8 (nI j).toNatClampNeg = -1 := by rw [cj]; exact h8
  have e9 : a9 (nI j).toNatClampNeg = -1 := by rw [cj]; exact h9
  exact ⟨2, pk_le 6 0 (fun z => absurd z (by omega)) (fun _ => br_f (nI_pos (by omega)) ⟨pk_in t 24 ht, nm_r e6 ⟨pk_in j 6 (by omega), nm_r e8 ⟨pk_in j 6 (by omega), nm_r e9 (nm_r (nI_1 0) (pk_le 6 1 (fun z => absurd z (by omega)) (fun _ => br_t (by decide) H)))⟩⟩⟩)⟩
theorem dk_give_2 {post : Int32 → St2 → Prop} {pr bl sh rc le kn ll : Int32} {a1 a2 a3 a4 a5 a6 a7 a8 a9 a10 a11 a12 : Nat → Int32} {lo p e j : Nat} (hj : j < 2) (he : e ≤ 24) (hl : 5 ≤ lo) (hp : lo ≤ p) (hpe : p ≤ e) (hW : dk_W e a1 a2) (hS : dk_S lo e sh) (hO : dk_O lo p e a6)
    (H0 : p = e → ∀ (rc' le' : Int32) (a7' a8' a9' : Nat → Int32), post 0 (pr, bl, sh, rc', le', kn, ll, a1, a2, a3, a4, a5, a6, a7', a8', a9', a10, a11, a12))
    (H1 : p < e → ∀ (rc' le' : Int32) (a6' a7' a8' a9' : Nat → Int32), dk_O lo (p + 1) e a6' → post 1 (pr, bl, sh, rc', le', kn, ll, a1, a2, a3, a4, a5, a6', a7', a8', a9', a10, a11, a12)) : wpX_give_2 post (pr, bl, sh, rc, le, kn, ll, a1, a2, a3, a4, a5, a6, a7, a8, a9, a10, a11, a12) (nI j) := by
  have cj : (nI j).toNatClampNeg = j := nI_clamp (by omega)
  have e7 : upd a7 0 (nI j).toInt8.toInt32 = upd a7 0 (nI j) := by rw [dk_i8 j (by omega)]
  have e8 : upd a8 (nI j).toNatClampNeg (-1) = upd a8 j (-1) := by rw [cj]
  have e9 : upd a9 (nI j).toNatClampNeg (-1) = upd a9 j (-1) := by rw [cj]
  refine nm_r (dk_shl j hj) (nm_r e7 ⟨pk_in j 6 (by omega), nm_r e8 ⟨pk_in j 6 (by omega), nm_r e9 ⟨3, ?_⟩⟩⟩)
  refine pk_le 1 0 (fun z => absurd z (by omega)) (fun _ => pk_le 6 0 (fun z => absurd z (by omega)) (fun _ => ⟨pk_in 0 8 (by omega), ?_⟩))
  have ea : upd a7 0 (nI j) (0 : Int32).toNatClampNeg = nI j := pk_us
  rw [ea]
  refine dk_look_2 hj hj he hl hp hpe hW hS hO dk_L_0 (fun z rc' le' a7' a8' a9' h => ?_) (fun z rc' le' a7' a8' a9' h => ?_)
  · refine br_t (by decide) (nm_r (nI_1 0) ?_)
    rcases h.2.2.2 with ⟨r1, r2⟩ | ⟨r1, r2, r3⟩
    · subst r2
      exact pk_le 1 1 (fun _ => H0 z _ _ _ _ _) (fun z => absurd z (by omega))
    · subst r2
      refine pk_le 2 1 (fun z => absurd z (by omega)) (fun _ => pk_le 6 1 (fun z => absurd z (by omega)) (fun _ => ⟨pk_in 1 8 (by omega), ?_⟩))
      obtain ⟨x, hx, ex⟩ := dk_10 r3
      have ex' : a7' (nI (0 + 1)).toNatClampNeg = nI x := ex
      rw [ex']
      refine dk_look_2 hj hx he hl hp hpe hW hS hO h (fun _ rc'' le'' a7'' a8'' a9'' h' => ?_) (fun z2 => absurd z2 (by omega))
      refine br_t (by decide) (nm_r (nI_1 1) ?_)
      rcases h'.2.2.2 with ⟨r4, r5⟩ | ⟨r4, r5, r6⟩
      · subst r5
        exact pk_le 1 2 (fun _ => H0 z _ _ _ _ _) (fun z => absurd z (by omega))
      · subst r5
        exact pk_le 2 2 (fun _ => H0 z _ _ _ _ _) (fun z => absurd z (by omega))
  · refine br_f (nI_pos (by omega)) ⟨pk_in 0 8 (by omega), ?_⟩
    have e7' : a7' (0 : Int32).toNatClampNeg = nI j := h.1
    rw [e7']
    exact dk_shift_2 hj (by omega) h.2.1 h.2.2.1 (H1 z _ _ _ _ _ _ (dk_O_s hj hO))
theorem dk_many {post : Int32 → St2 → Prop} {pr bl sh rc le kn ll : Int32} {a1 a2 a3 a4 a5 a6 a7 a8 a9 a10 a11 a12 : Nat → Int32} {lo p e j m : Nat} (hjm : 0 < m → j < 2) (he : e ≤ 24) (hl : 5 ≤ lo) (hp : lo ≤ p) (hpe : p + m ≤ e) (hW : dk_W e a1 a2) (hS : dk_S lo e sh) (hO : dk_O lo p e a6)
    (H : ∀ (rc' le' : Int32) (a6' a7' a8' a9' : Nat → Int32), dk_O lo (p + m) e a6' → post 1 (pr, bl, sh, rc', le', kn, ll, a1, a2, a3, a4, a5, a6', a7', a8', a9', a10, a11, a12)) : wpX_giveMany_2 post (pr, bl, sh, rc, le, kn, ll, a1, a2, a3, a4, a5, a6, a7, a8, a9, a10, a11, a12) (nI j) (nI m) := by
  refine pk_loop (σ := Int32 × Int32 × (Nat → Int32) × (Nat → Int32) × (Nat → Int32) × (Nat → Int32)) (fun n i s => wX_giveMany_2_2 post (nI j) (nI m) n (nI i) pr bl sh s.1 s.2.1 kn ll a1 a2 a3 a4 a5 s.2.2.1 s.2.2.2.1 s.2.2.2.2.1 s.2.2.2.2.2 a10 a11 a12) (fun i s => dk_O lo (p + i) e s.2.2.1) m 0 (rc, le, a6, a7, a8, a9) (by omega) hO ?_ ?_
  · rintro n ⟨rc', le', a6', a7', a8', a9'⟩ h
    exact pk_le m m (fun _ => H rc' le' a6' a7' a8' a9' h) (fun z => absurd z (by omega))
  · rintro n i ⟨rc', le', a6', a7', a8', a9'⟩ hi h hw
    have h : dk_O lo (p + i) e a6' := h
    refine pk_le m i (fun z => absurd z (by omega)) (fun _ => ?_)
    exact dk_give_2 (hjm (by omega)) he hl (by omega) (by omega) hW hS h (fun z => absurd z (by omega)) (fun z rc' le' a6' a7' a8' a9' h' => br_f (by decide) (nm_r (nI_1 i) (hw (rc', le', a6', a7', a8', a9') h')))
end
section
theorem dk_many0 {post : Int32 → St2 → Prop} {pr bl sh rc le kn ll : Int32} {a1 a2 a3 a4 a5 a6 a7 a8 a9 a10 a11 a12 : Nat → Int32} {x : Int32} (H : post 1 (pr, bl, sh, rc, le, kn, ll, a1, a2, a3, a4, a5, a6, a7, a8, a9, a10, a11, a12)) : wpX_giveMany post (pr, bl, sh, rc, le, kn, ll, a1, a2, a3, a4, a5, a6, a7, a8, a9, a10, a11, a12) x 0 :=
  ⟨1, pk_le 0 0 (fun _ => H) (fun z => absurd z (by omega))⟩
theorem dk_musts {post : Int32 → St2 → Prop} {pr bl sh rc le kn ll : Int32} {a1 a2 a3 a4 a5 a6 a7 a8 a9 a10 a11 a12 : Nat → Int32} (h3 : ∀ j, j < 6 → a3 j = 0) (H : post 1 (pr, bl, sh, rc, le, kn, ll, a1, a2, a3, a4, a5, a6, a7, a8, a9, a10, a11, a12)) : wpX_giveMusts post (pr, bl, sh, rc, le, kn, ll, a1, a2, a3, a4, a5, a6, a7, a8, a9, a10, a11, a12) := by
  refine pk_loop (σ := Unit) (fun n i _ => wX_giveMusts_2 post n (nI i) pr bl sh rc le kn ll a1 a2 a3 a4 a5 a6 a7 a8 a9 a10 a11 a12) (fun _ _ => True) 6 0 () (by omega) trivial ?_ ?_
  · intro n _ _
    exact pk_le 6 6 (fun _ => H) (fun z => absurd z (by omega))
  · intro n i _ hi _ hw
    have c3 : a3 (nI i).toNatClampNeg = 0 := by rw [show (nI i).toNatClampNeg = i from nI_clamp (by omega)]; exact h3 i hi
    refine pk_le 6 i (fun z => absurd z (by omega)) (fun _ => ?_)
    refine dk_has hi (br_c (fun _ => br_t rfl (nm_r (nI_1 i) (hw () trivial))) (fun _ => br_f (by decide) ⟨pk_in i 6 hi, ?_⟩))
    rw [c3]
    exact dk_many0 (br_f (by decide) (nm_r (nI_1 i) (hw () trivial)))
theorem dk_possible {post : Int32 → St2 → Prop} {pr bl sh rc le kn ll : Int32} {a1 a2 a3 a4 a5 a6 a7 a8 a9 a10 a11 a12 : Nat → Int32} (h3 : ∀ j, j < 6 → a3 j = 0) (H : ∀ a6', (∀ t, t < 24 → a6' t = -1) → post 1 (pr, bl, bl, rc, le, kn, ll, a1, a2, a3, a4, a5, a6', a7, a8, a9, a10, a11, a12)) : wpX_possible post (pr, bl, sh, rc, le, kn, ll, a1, a2, a3, a4, a5, a6, a7, a8, a9, a10, a11, a12) := by
  unfold wpX_possible
  exact dk_begin (fun a6' h => dk_musts h3 ⟨rfl, H a6' h⟩)
theorem dk_packed {post : Int32 → Prop} {a u : Nat} (ha : a < 7) (hu : u < 10) (hu0 : 0 < u) (H : post 1) : wpX_packedOk post () (nI (8 * a + 64 * u)) := by
  obtain ⟨k1, k2, k3, k4, k5⟩ := dk_pkd a ha u hu hu0
  exact nm_r k5 (br_f k1 (br_f k2 (pk_lt u 1 (fun z => absurd z (by omega)) (fun _ => pk_lt 9 u (fun z => absurd z (by omega)) (fun _ => H)))))
/-- the place where a task comes in -/
theorem dk_bringAt {post : Int32 → St2 → Prop} {pr bl sh rc le kn ll : Int32} {a1 a2 a3 a4 a5 a6 a7 a8 a9 a10 a11 a12 : Nat → Int32} {fu k e a u : Nat} (hk : k < 6) (he : e < 25) (ha : a < 7) (hu : u < 10) (hu0 : 0 < u) (hpr : ((pr >>> (nI k &&& 31)) &&& 1) = 0) (h3 : ∀ j, j < 6 → a3 j = 0)
    (H : ∀ a6', (∀ t, t < 24 → a6' t = -1) → post (nI k) (pr ||| ((1 : Int32) <<< (nI k &&& 31)), bl, bl, rc, le, 0, ll, upd a1 k (nI 5), upd a2 k (nI e), upd a3 k 0, upd a4 k (nI a), upd a5 k (nI u), a6', a7, a8, a9, a10, a11, a12)) :
    wX_bring_27 post 5 (nI e) (nI (8 * a + 64 * u)) pr bl sh rc le kn ll a1 a2 a3 a4 a5 a6 a7 a8 a9 a10 a11 a12 (fu + 1) (nI k) := by
  obtain ⟨k1, k2, k3, k4, k5⟩ := dk_pkd a ha u hu hu0
  have c : (nI k).toNatClampNeg = k := nI_clamp (by omega)
  have e1 : upd a1 (nI k).toNatClampNeg (5 : Int32).toInt8.toInt32 = upd a1 k (nI 5) := by rw [c]; rfl
  have e2 : upd a2 (nI k).toNatClampNeg (nI e).toInt8.toInt32 = upd a2 k (nI e) := by rw [c, dk_i8 e (by omega)]
  have e3 : upd a3 (nI k).toNatClampNeg (nI (8 * a + 64 * u) &&& 7).toInt8.toInt32 = upd a3 k 0 := by rw [c, k3]
  have e4 : upd a4 (nI k).toNatClampNeg ((nI (8 * a + 64 * u) >>> ((3 : Int32) &&& 31)) &&& 7).toInt8.toInt32 = upd a4 k (nI a) := by rw [c, k4]
  have e5 : upd a5 (nI k).toNatClampNeg (nI (8 * a + 64 * u) >>> ((6 : Int32) &&& 31)).toInt8.toInt32 = upd a5 k (nI u) := by rw [c, k5, dk_i8 u (by omega)]
  have h3' : ∀ j, j < 6 → upd a3 k 0 j = 0 := by
    intro j hj
    by_cases q : j = k
    · rw [q, pk_us]
    · rw [pk_un q]
      exact h3 j hj
  refine pk_le 6 k (fun z => absurd z (by omega)) (fun _ => dk_has hk (br_t hpr (br_t rfl (nm_e ⟨pk_in k 6 hk, nm_r e1 ⟨pk_in k 6 hk, nm_r e2 ?_⟩⟩))))
  refine ⟨pk_in k 6 hk, nm_r e3 ⟨pk_in k 6 hk, nm_r e4 ⟨pk_in k 6 hk, nm_r e5 ?_⟩⟩⟩
  exact dk_possible h3' (fun a6' h => br_f (by decide) (H a6' h))
theorem dk_bring0 {post : Int32 → St2 → Prop} {bl sh rc le kn ll : Int32} {a1 a2 a3 a4 a5 a6 a7 a8 a9 a10 a11 a12 : Nat → Int32} {e a u : Nat} (he : e < 25) (he5 : 5 < e) (ha : a < 7) (hu : u < 10) (hu0 : 0 < u) (h3 : ∀ j, j < 6 → a3 j = 0)
    (H : ∀ a6', (∀ t, t < 24 → a6' t = -1) → post (nI 0) (1, bl, bl, rc, le, 0, ll, upd a1 0 (nI 5), upd a2 0 (nI e), upd a3 0 0, upd a4 0 (nI a), upd a5 0 (nI u), a6', a7, a8, a9, a10, a11, a12)) :
    wpX_bring post (0, bl, sh, rc, le, kn, ll, a1, a2, a3, a4, a5, a6, a7, a8, a9, a10, a11, a12) 5 (nI e) (nI (8 * a + 64 * u)) :=
  br_f (by decide) (pk_lt 24 e (fun z => absurd z (by omega)) (fun _ => pk_le e 5 (fun z => absurd z (by omega)) (fun _ => dk_packed ha hu hu0 (br_f (by decide) ⟨1, dk_bringAt (k := 0) (by omega) he ha hu hu0 (dk_bit0 0 (by omega)) h3 H⟩))))
theorem dk_bring1 {post : Int32 → St2 → Prop} {bl sh rc le kn ll : Int32} {a1 a2 a3 a4 a5 a6 a7 a8 a9 a10 a11 a12 : Nat → Int32} {e a u : Nat} (he : e < 25) (he5 : 5 < e) (ha : a < 7) (hu : u < 10) (hu0 : 0 < u) (h3 : ∀ j, j < 6 → a3 j = 0)
    (H : ∀ a6', (∀ t, t < 24 → a6' t = -1) → post (nI 1) (3, bl, bl, rc, le, 0, ll, upd a1 1 (nI 5), upd a2 1 (nI e), upd a3 1 0, upd a4 1 (nI a), upd a5 1 (nI u), a6', a7, a8, a9, a10, a11, a12)) :
    wpX_bring post (1, bl, sh, rc, le, kn, ll, a1, a2, a3, a4, a5, a6, a7, a8, a9, a10, a11, a12) 5 (nI e) (nI (8 * a + 64 * u)) :=
  br_f (by decide) (pk_lt 24 e (fun z => absurd z (by omega)) (fun _ => pk_le e 5 (fun z => absurd z (by omega)) (fun _ => dk_packed ha hu hu0 (br_f (by decide) ⟨2, pk_le 6 0 (fun z => absurd z (by omega)) (fun _ => dk_has (j := 0) (by omega) (br_f (fun z => absurd ((dk_bit1 0 (by omega)).mp z) (by omega)) (br_f (by decide) (nm_r (nI_1 0) (dk_bringAt (k := 1) (by omega) he ha hu hu0 ((dk_bit1 1 (by omega)).mpr (by omega)) h3 H)))))⟩))))
end
section
theorem dk_nioT {post : Int32 → Prop} {bl sh rc le kn ll : Int32} {a1 a2 a3 a4 a5 a6 a7 a8 a9 a10 a11 a12 : Nat → Int32} {x y : Int32} (H : post y) : wX_nextInOrder_4 post x 3 bl sh rc le kn ll a1 a2 a3 a4 a5 a6 a7 a8 a9 a10 a11 a12 5 y (nI 2) :=
  loop_i (σ := Unit) (fun n i _ => wX_nextInOrder_4 post x 3 bl sh rc le kn ll a1 a2 a3 a4 a5 a6 a7 a8 a9 a10 a11 a12 n y (nI i)) (fun i _ => 2 ≤ i) 6
    (fun n _ _ => pk_le 6 6 (fun _ => H) (fun z => absurd z (by omega)))
    (fun n i _ hi h hw => pk_le 6 i (fun z => absurd z (by omega)) (fun _ => dk_has hi (br_t ((dk_bit3 i hi).mpr h) (br_t rfl (nm_r (nI_1 i) (hw () (Nat.le_succ_of_le h)))))))
    5 2 () (by omega) (by omega) (Nat.le_refl 2)
theorem dk_has3 {post : Int32 → Prop} {bl sh rc le kn ll : Int32} {a1 a2 a3 a4 a5 a6 a7 a8 a9 a10 a11 a12 : Nat → Int32} {j : Nat} (hj : j < 2) (H : post 1) : wpX_has post (3, bl, sh, rc, le, kn, ll, a1, a2, a3, a4, a5, a6, a7, a8, a9, a10, a11, a12) (nI j) :=
  dk_has (by omega) (br_f (fun z => absurd ((dk_bit3 j (by omega)).mp z) (by omega)) H)
theorem dk_nio0 {post : Int32 → Prop} {bl sh rc le kn ll : Int32} {a1 a2 a3 a4 a5 a6 a7 a8 a9 a10 a11 a12 : Nat → Int32} {u v : Nat} (hu : u < 10) (hv : v < 10) (h0 : a5 0 = nI u) (h1 : a5 1 = nI v) (HA : v ≤ u → post (nI 0)) (HB : u < v → post (nI 1)) : wpX_nextInOrder post (3, bl, sh, rc, le, kn, ll, a1, a2, a3, a4, a5, a6, a7, a8, a9, a10, a11, a12) 0 :=
  ⟨7, pk_le 6 0 (fun z => absurd z (by omega)) (fun _ => dk_has3 (j := 0) (by omega) (br_f (by decide) (br_t (dk_bit0 0 (by omega)) (br_t (by decide) (nm_r (nI_1 0)
    (pk_le 6 1 (fun z => absurd z (by omega)) (fun _ => dk_has3 (j := 1) (by omega) (br_f (by decide) (br_t (dk_bit0 1 (by omega)) (br_f (by decide) ⟨pk_in 1 6 (by omega), pk_in 0 6 (by omega),
      pk_le v u (fun z => nm_r (nI_1 1) (dk_nioT (HA z))) (fun z => nm_r (nI_1 1) (dk_nioT (HB z))) (hx := h1) (hy := h0)⟩))))))))))⟩
theorem dk_nio1 {post : Int32 → Prop} {bl sh rc le kn ll : Int32} {a1 a2 a3 a4 a5 a6 a7 a8 a9 a10 a11 a12 : Nat → Int32} (H : post (nI 1)) : wpX_nextInOrder post (3, bl, sh, rc, le, kn, ll, a1, a2, a3, a4, a5, a6, a7, a8, a9, a10, a11, a12) 1 :=
  ⟨7, pk_le 6 0 (fun z => absurd z (by omega)) (fun _ => dk_has3 (j := 0) (by omega) (br_f (by decide) (br_f (fun z => absurd ((dk_bit1 0 (by omega)).mp z) (by omega)) (nm_r (nI_1 0)
    (pk_le 6 1 (fun z => absurd z (by omega)) (fun _ => dk_has3 (j := 1) (by omega) (br_f (by decide) (br_t ((dk_bit1 1 (by omega)).mpr (by omega)) (br_t (by decide) (nm_r (nI_1 1) (dk_nioT H)))))))))))⟩
theorem dk_nio2 {post : Int32 → Prop} {bl sh rc le kn ll : Int32} {a1 a2 a3 a4 a5 a6 a7 a8 a9 a10 a11 a12 : Nat → Int32} (H : post (nI 0)) : wpX_nextInOrder post (3, bl, sh, rc, le, kn, ll, a1, a2, a3, a4, a5, a6, a7, a8, a9, a10, a11, a12) 2 :=
  ⟨7, pk_le 6 0 (fun z => absurd z (by omega)) (fun _ => dk_has3 (j := 0) (by omega) (br_f (by decide) (br_t (by decide +kernel) (br_t (by decide) (nm_r (nI_1 0)
    (pk_le 6 1 (fun z => absurd z (by omega)) (fun _ => dk_has3 (j := 1) (by omega) (br_f (by decide) (br_f (by decide +kernel) (nm_r (nI_1 1) (dk_nioT H)))))))))))⟩
theorem dk_nio3 {post : Int32 → Prop} {bl sh rc le kn ll : Int32} {a1 a2 a3 a4 a5 a6 a7 a8 a9 a10 a11 a12 : Nat → Int32} (H : post (-1)) : wpX_nextInOrder post (3, bl, sh, rc, le, kn, ll, a1, a2, a3, a4, a5, a6, a7, a8, a9, a10, a11, a12) 3 :=
  ⟨7, pk_le 6 0 (fun z => absurd z (by omega)) (fun _ => dk_has3 (j := 0) (by omega) (br_f (by decide) (br_f (by decide +kernel) (nm_r (nI_1 0)
    (pk_le 6 1 (fun z => absurd z (by omega)) (fun _ => dk_has3 (j := 1) (by omega) (br_f (by decide) (br_f (by decide +kernel) (nm_r (nI_1 1) (dk_nioT H))))))))))⟩
/-- the inner loop: a task is given what it may have and what there is -/
theorem dk_50 {post : Int32 → St2 → Prop} {J : Int32 → Int32 → Int32 → Int32 → Int32 → Int32 → Int32 → Int32 → Int32 → Int32 → (Nat → Int32) → (Nat → Int32) → (Nat → Int32) → (Nat → Int32) → (Nat → Int32) → (Nat → Int32) → (Nat → Int32) → (Nat → Int32) → (Nat → Int32) → (Nat → Int32) → (Nat → Int32) → (Nat → Int32) → Prop} {pr bl sh rc le kn ll : Int32} {a1 a2 a3 a4 a5 a6 a7 a8 a9 a10 a11 a12 : Nat → Int32} {x2 x3 x4 : Int32} {p e j m q : Nat} (hj : j < 2) (hm : m < 7) (he : e ≤ 24) (hp : 5 ≤ p) (hq : q ≤ m) (hpe : p + q ≤ e) (hqm : q = m ∨ p + q = e) (hW : dk_W e a1 a2) (hS : dk_S 5 e sh) (hO : dk_O 5 p e a6) (h4 : a4 j = nI m)
    (H : ∀ (rc' le' : Int32) (a6' a7' a8' a9' : Nat → Int32), dk_O 5 (p + q) e a6' → wX_leastLossWith_77 post J x2 x3 x4 (nI j) (nI q) pr bl sh rc' le' kn ll a1 a2 a3 a4 a5 a6' a7' a8' a9' a10 a11 a12) :
    ∃ fu, wX_leastLossWith_50 post J x2 x3 x4 (nI j) fu 0 pr bl sh rc le kn ll a1 a2 a3 a4 a5 a6 a7 a8 a9 a10 a11 a12 := by
  have c4 : a4 (nI j).toNatClampNeg = nI m := by rw [show (nI j).toNatClampNeg = j from nI_clamp (by omega)]; exact h4
  refine pk_loop (σ := Int32 × Int32 × (Nat → Int32) × (Nat → Int32) × (Nat → Int32) × (Nat → Int32)) (fun n i s => wX_leastLossWith_50 post J x2 x3 x4 (nI j) n (nI i) pr bl sh s.1 s.2.1 kn ll a1 a2 a3 a4 a5 s.2.2.1 s.2.2.2.1 s.2.2.2.2.1 s.2.2.2.2.2 a10 a11 a12) (fun i s => dk_O 5 (p + i) e s.2.2.1) q 0 (rc, le, a6, a7, a8, a9) (by omega) hO ?_ ?_
  · rintro n ⟨rc', le', a6', a7', a8', a9'⟩ h
    have h : dk_O 5 (p + q) e a6' := h
    refine ⟨pk_in j 6 (by omega), pk_le m q (fun _ => H rc' le' a6' a7' a8' a9' h) (fun z => ?_) (hx := c4)⟩
    exact dk_give hj he (by omega) (by omega) (by omega) hW hS h (fun _ rc' le' a7' a8' a9' => br_t rfl (H rc' le' a6' a7' a8' a9' h)) (fun z => absurd z (by omega))
  · rintro n i ⟨rc', le', a6', a7', a8', a9'⟩ hi h hw
    have h : dk_O 5 (p + i) e a6' := h
    refine ⟨pk_in j 6 (by omega), pk_le m i (fun z => absurd z (by omega)) (fun z => ?_) (hx := c4)⟩
    exact dk_give hj he (by omega) (by omega) (by omega) hW hS h (fun z => absurd z (by omega)) (fun z rc' le' a6' a7' a8' a9' h' => br_f (by decide) (nm_r (nI_1 i) (hw (rc', le', a6', a7', a8', a9') h')))
/-- one round of the order -/
theorem dk_rnd {post : Int32 → St2 → Prop} {pr bl sh rc le kn ll : Int32} {a1 a2 a3 a4 a5 a6 a7 a8 a9 a10 a11 a12 : Nat → Int32} {x3 x3' : Int32} {fu sm w k p e j m q : Nat} (hj : j < 2) (hk : k < 6) (hm : m < 7) (he : e ≤ 24) (hp : 5 ≤ p) (hq : q ≤ m) (hpe : p + q ≤ e) (hqm : q = m ∨ p + q = e) (hW : dk_W e a1 a2) (hS : dk_S 5 e sh) (hO : dk_O 5 p e a6) (h4 : a4 j = nI m) (h5 : a5 j = nI w) (h3 : x3 ||| ((1 : Int32) <<< (nI j &&& 31)) = x3')
    (hN : ∀ Q : Int32 → Prop, Q (nI j) → wpX_nextInOrder Q (pr, bl, sh, rc, le, kn, ll, a1, a2, a3, a4, a5, a6, a7, a8, a9, a10, a11, a12) x3)
    (H : ∀ (rc' le' : Int32) (a6' a7' a8' a9' : Nat → Int32), dk_O 5 (p + q) e a6' → wX_leastLossWith_21 post fu (nI (sm + w * (m - q))) x3' (nI (k + 1)) pr bl sh rc' le' kn ll a1 a2 a3 a4 a5 a6' a7' a8' a9' (upd a10 j (nI q)) a11 a12) :
    wX_leastLossWith_21 post (fu + 1) (nI sm) x3 (nI k) pr bl sh rc le kn ll a1 a2 a3 a4 a5 a6 a7 a8 a9 a10 a11 a12 := by
  have c : (nI j).toNatClampNeg = j := nI_clamp (by omega)
  have e10 : upd a10 (nI j).toNatClampNeg (nI q).toInt8.toInt32 = upd a10 j (nI q) := by rw [c, dk_i8 q (by omega)]
  have es : nI sm + ((a5 (nI j).toNatClampNeg) * ((a4 (nI j).toNatClampNeg) - nI q)) = nI (sm + w * (m - q)) := by
    rw [c, h4, h5, pk_sub hq, pk_mul, nI_add]
  refine pk_le 6 k (fun z => absurd z (by omega)) (fun _ => hN _ (br_f (nI_pos (by omega)) (nm_r h3 ?_)))
  exact dk_50 hj hm he hp hq hpe hqm hW hS hO h4 (fun rc' le' a6' a7' a8' a9' h => ⟨pk_in j 6 (by omega), nm_r e10 ⟨pk_in j 6 (by omega), pk_in j 6 (by omega), nm_r es (nm_r (nI_1 k) (H rc' le' a6' a7' a8' a9' h))⟩⟩)
/-- what a plan keeps -/
def dk_Q (n a b u v one two : Nat) : Prop := (v ≤ u → one = min a n ∧ two = min b (n - one)) ∧ (u < v → two = min b n ∧ one = min a (n - two))
theorem dk_rndT {post : Int32 → St2 → Prop} {bl sh rc le kn ll : Int32} {a1 a2 a3 a4 a5 a6 a7 a8 a9 a10 a11 a12 : Nat → Int32} {y : Int32} (H : post y (3, bl, sh, rc, le, kn, ll, a1, a2, a3, a4, a5, a6, a7, a8, a9, a10, a11, a12)) : wX_leastLossWith_21 post 5 y 3 (nI 2) 3 bl sh rc le kn ll a1 a2 a3 a4 a5 a6 a7 a8 a9 a10 a11 a12 :=
  loop_i (σ := Unit) (fun n i _ => wX_leastLossWith_21 post n y 3 (nI i) 3 bl sh rc le kn ll a1 a2 a3 a4 a5 a6 a7 a8 a9 a10 a11 a12) (fun _ _ => True) 6
    (fun n _ _ => pk_le 6 6 (fun _ => H) (fun z => absurd z (by omega)))
    (fun n i _ hi _ hw => pk_le 6 i (fun z => absurd z (by omega)) (fun _ => dk_nio3 (br_t (by decide) (nm_r (nI_1 i) (hw () trivial)))))
    5 2 () (by omega) (by omega) trivial
theorem dk_least {post : Int32 → St2 → Prop} {bl sh rc le kn ll : Int32} {a1 a2 a3 a4 a5 a6 a7 a8 a9 a10 a11 a12 : Nat → Int32} {n a b u v one two : Nat} (hn : n ≤ 12) (ha : a < 7) (hb : b < 7) (hu : u < 10) (hv : v < 10) (hQ : dk_Q n a b u v one two) (hW : dk_W (5 + n) a1 a2) (h3 : ∀ j, j < 6 → a3 j = 0) (h40 : a4 0 = nI a) (h41 : a4 1 = nI b) (h50 : a5 0 = nI u) (h51 : a5 1 = nI v)
    (H : ∀ (rc' le' : Int32) (a6' a7' a8' a9' a10' : Nat → Int32), a10' 0 = nI one → a10' 1 = nI two → post (nI (u * (a - one) + v * (b - two))) (3, bl, 0, rc', le', kn, ll, a1, a2, a3, a4, a5, a6', a7', a8', a9', a10', a11, a12)) :
    wpX_leastLossWith post (3, bl, sh, rc, le, kn, ll, a1, a2, a3, a4, a5, a6, a7, a8, a9, a10, a11, a12) 0 := by
  unfold wpX_leastLossWith
  refine dk_begin (fun a6' h6 => dk_musts h3 (br_f (by decide) ⟨7, ?_⟩))
  have O0 : dk_O 5 5 (5 + n) a6' := dk_O_0 (by omega) h6
  have S0 : dk_S 5 (5 + n) 0 := dk_S_0 (by omega)
  by_cases f : v ≤ u
  · obtain ⟨q1, q2⟩ := hQ.1 f
    refine dk_rnd (fu := 6) (sm := 0) (k := 0) (j := 0) (q := one) (x3' := 1) (by omega) (by omega) ha (by omega) (Nat.le_refl 5) (by omega) (by omega) (by omega) hW S0 O0 h40 h50 (by decide +kernel) (fun Q hQ' => dk_nio0 hu hv h50 h51 (fun _ => hQ') (fun z => absurd z (by omega))) (fun rc1 le1 b6 b7 b8 b9 O1 => ?_)
    refine dk_rnd (fu := 5) (k := 1) (j := 1) (q := two) (x3' := 3) (by omega) (by omega) hb (by omega) (by omega) (by omega) (by omega) (by omega) hW S0 O1 h41 h51 (by decide +kernel) (fun Q hQ' => dk_nio1 hQ') (fun rc2 le2 c6 c7 c8 c9 O2 => ?_)
    refine dk_rndT ?_
    rw [show 0 + u * (a - one) + v * (b - two) = u * (a - one) + v * (b - two) by rw [Nat.zero_add]]
    refine H rc2 le2 c6 c7 c8 c9 _ ?_ pk_us
    rw [pk_un (by omega), pk_us]
  · obtain ⟨q1, q2⟩ := hQ.2 (by omega)
    refine dk_rnd (fu := 6) (sm := 0) (k := 0) (j := 1) (q := two) (x3' := 2) (by omega) (by omega) hb (by omega) (Nat.le_refl 5) (by omega) (by omega) (by omega) hW S0 O0 h41 h51 (by decide +kernel) (fun Q hQ' => dk_nio0 hu hv h50 h51 (fun z => absurd z (by omega)) (fun _ => hQ')) (fun rc1 le1 b6 b7 b8 b9 O1 => ?_)
    refine dk_rnd (fu := 5) (k := 1) (j := 0) (q := one) (x3' := 3) (by omega) (by omega) ha (by omega) (by omega) (by omega) (by omega) (by omega) hW S0 O1 h40 h50 (by decide +kernel) (fun Q hQ' => dk_nio2 hQ') (fun rc2 le2 c6 c7 c8 c9 O2 => ?_)
    refine dk_rndT ?_
    rw [show 0 + v * (b - two) + u * (a - one) = u * (a - one) + v * (b - two) by rw [Nat.zero_add, Nat.add_comm]]
    refine H rc2 le2 c6 c7 c8 c9 _ pk_us ?_
    rw [pk_un (by omega), pk_us]
end
section
/-- what is still to be given -/
def dk_G (c0 c1 : Nat) (f : Nat → Int32) : Prop := f 0 = nI c0 ∧ f 1 = nI c1 ∧ ∀ j, 2 ≤ j → j < 6 → f j = nI 0
theorem dk_G_eq {c0 c1 d0 d1 : Nat} {f : Nat → Int32} (h : dk_G c0 c1 f) (e0 : c0 = d0) (e1 : c1 = d1) : dk_G d0 d1 f := by
  rw [← e0, ← e1]
  exact h
theorem dk_G_0 {c0 c1 d : Nat} {f : Nat → Int32} (h : dk_G c0 c1 f) : dk_G d c1 (upd f 0 (nI d)) :=
  ⟨pk_us, by rw [pk_un (by omega)]; exact h.2.1, fun j h1 h2 => by rw [pk_un (by omega)]; exact h.2.2 j h1 h2⟩
theorem dk_G_1 {c0 c1 d : Nat} {f : Nat → Int32} (h : dk_G c0 c1 f) : dk_G c0 d (upd f 1 (nI d)) :=
  ⟨by rw [pk_un (by omega)]; exact h.1, pk_us, fun j h1 h2 => by rw [pk_un (by omega)]; exact h.2.2 j h1 h2⟩
theorem dk_uu {f : Nat → Int32} {j : Nat} {x y : Int32} (h : f j = y) : upd (upd f j x) j y = f := by
  funext i
  by_cases q : i = j
  · rw [q, pk_us, h]
  · rw [pk_un q, pk_un q]
def dk_ps (s c0 c1 : Nat) : Nat → Nat
  | 0 => s
  | 1 => s + c0
  | _ + 2 => s + c0 + c1
theorem dk_ps_s {s c0 c1 i : Nat} {f : Nat → Int32} (hi : i < 6) (h : dk_G c0 c1 f) : ∃ m, f i = nI m ∧ (0 < m → i < 2) ∧ dk_ps s c0 c1 (i + 1) = dk_ps s c0 c1 i + m ∧ s ≤ dk_ps s c0 c1 i ∧ dk_ps s c0 c1 (i + 1) ≤ s + c0 + c1 := by
  match i with
  | 0 => exact ⟨c0, h.1, fun _ => by omega, rfl, Nat.le_refl s, by show s + c0 ≤ _; omega⟩
  | 1 => exact ⟨c1, h.2.1, fun _ => by omega, rfl, by show s ≤ s + c0; omega, Nat.le_refl _⟩
  | i + 2 => exact ⟨0, h.2.2 (i + 2) (by omega) hi, fun z => absurd z (by omega), rfl, by show s ≤ s + c0 + c1; omega, Nat.le_refl _⟩
theorem dk_rest {post : Int32 → St2 → Prop} {pr sh rc le kn ll : Int32} {a1 a2 a3 a4 a5 a6 a7 a8 a9 a10 a11 a12 : Nat → Int32} {s e c0 c1 : Nat} (hs : 5 ≤ s) (he : e ≤ 24) (hse : s + c0 + c1 ≤ e) (hW : dk_W e a1 a2) (hG : dk_G c0 c1 a12)
    (H : ∀ (sh' rc' le' : Int32) (a6' a7' a8' a9' : Nat → Int32), post 1 (pr, 0, sh', rc', le', kn, ll, a1, a2, a3, a4, a5, a6', a7', a8', a9', a10, a11, a12)) : wpX_restFits post (pr, 0, sh, rc, le, kn, ll, a1, a2, a3, a4, a5, a6, a7, a8, a9, a10, a11, a12) (nI s) := by
  unfold wpX_restFits
  refine dk_begin_2 (fun b6 h6 => ?_)
  have S0 : dk_S s e ((0 : Int32) ||| (((1 : Int32) <<< (nI s &&& 31)) - 1)) := dk_S_m (by omega) he
  refine pk_loop (σ := Int32 × Int32 × (Nat → Int32) × (Nat → Int32) × (Nat → Int32) × (Nat → Int32)) (fun n i t => wX_restFits_16 post n (nI i) pr 0 (((0 : Int32) ||| (((1 : Int32) <<< (nI s &&& 31)) - 1))) t.1 t.2.1 kn ll a1 a2 a3 a4 a5 t.2.2.1 t.2.2.2.1 t.2.2.2.2.1 t.2.2.2.2.2 a10 a11 a12) (fun i t => dk_O s (dk_ps s c0 c1 i) e t.2.2.1) 6 0 (rc, le, b6, a7, a8, a9) (by omega) (dk_O_0 he h6) ?_ ?_
  · rintro n ⟨rc', le', a6', a7', a8', a9'⟩ h
    exact pk_le 6 6 (fun _ => H _ rc' le' a6' a7' a8' a9') (fun z => absurd z (by omega))
  · rintro n i ⟨rc', le', a6', a7', a8', a9'⟩ hi h hw
    have h : dk_O s (dk_ps s c0 c1 i) e a6' := h
    obtain ⟨m, m1, m2, m3, m4, m5⟩ := dk_ps_s (s := s) hi hG
    have c12 : a12 (nI i).toNatClampNeg = nI m := by rw [show (nI i).toNatClampNeg = i from nI_clamp (by omega)]; exact m1
    refine pk_le 6 i (fun z => absurd z (by omega)) (fun _ => ⟨pk_in i 6 hi, ?_⟩)
    show wpX_giveMany_2 _ (pr, 0, ((0 : Int32) ||| (((1 : Int32) <<< (nI s &&& 31)) - 1)), rc', le', kn, ll, a1, a2, a3, a4, a5, a6', a7', a8', a9', a10, a11, a12) (nI i) (a12 (nI i).toNatClampNeg)
    rw [c12]
    refine dk_many m2 he hs m4 (by omega) hW S0 h (fun rc1 le1 b6 b7 b8 b9 h' => br_f (by decide) (nm_r (nI_1 i) (hw (rc1, le1, b6, b7, b8, b9) ?_)))
    show dk_O s (dk_ps s c0 c1 (i + 1)) e b6
    rw [m3]
    exact h'
/-- tasks that can't have unit t are passed over -/
theorem dk_foSkip {post : Int32 → St2 → Prop} {pr sh rc le kn ll : Int32} {a1 a2 a3 a4 a5 a6 a7 a8 a9 a10 a11 a12 : Nat → Int32} {t e k : Nat} (ht : t < 24) (he : e ≤ 24) (hk : k ≤ 6) (hW : dk_W e a1 a2) (hs : ∀ i, i < k → a12 i = nI 0 ∨ (i < 2 ∧ (t < 5 ∨ e ≤ t)))
    (H : ∀ (n : Nat) (sh' : Int32) (a6' : Nat → Int32), wX_firstOwner_2 post (nI t) (n + 1) (nI k) pr 0 sh' rc le kn ll a1 a2 a3 a4 a5 a6' a7 a8 a9 a10 a11 a12) : wpX_firstOwner post (pr, 0, sh, rc, le, kn, ll, a1, a2, a3, a4, a5, a6, a7, a8, a9, a10, a11, a12) (nI t) := by
  refine pk_loop (σ := Int32 × (Nat → Int32)) (fun n i s => wX_firstOwner_2 post (nI t) n (nI i) pr 0 s.1 rc le kn ll a1 a2 a3 a4 a5 s.2 a7 a8 a9 a10 a11 a12) (fun _ _ => True) k 0 (sh, a6) (by omega) trivial (fun n s _ => H n s.1 s.2) ?_
  rintro n i ⟨sh', a6'⟩ hi _ hw
  have ci : (nI i).toNatClampNeg = i := nI_clamp (by omega)
  refine pk_le 6 i (fun z => absurd z (by omega)) (fun _ => dk_begin_2 (fun b6 h6 => ⟨pk_in i 6 (by omega), ?_⟩))
  rcases hs i hi with q | ⟨q1, q2⟩
  · refine br_t ?_ (nm_r (nI_1 i) (hw (0, b6) trivial))
    rw [ci, q]
    decide
  · exact br_c (fun _ => nm_r (nI_1 i) (hw (0, b6) trivial)) (fun _ => dk_win q1 he ht (Nat.le_refl 5) hW (dk_S_0 he) (fun _ => br_t rfl (nm_r (nI_1 i) (hw (0, b6) trivial))) (fun _ _ => absurd q2 (by omega)))
/-- the task that gets unit t -/
theorem dk_foRet {post : Int32 → St2 → Prop} {pr sh rc le kn ll : Int32} {a1 a2 a3 a4 a5 a6 a7 a8 a9 a10 a11 a12 : Nat → Int32} {n t e j c c0 c1 : Nat} (hj : j < 2) (ht : 5 ≤ t) (hte : t < e) (he : e ≤ 24) (hW : dk_W e a1 a2) (hc : c < 100) (hj12 : a12 j = nI (c + 1)) (hG : dk_G c0 c1 (upd a12 j (nI c))) (hfit : t + 1 + c0 + c1 ≤ e)
    (H : ∀ (sh' rc' le' : Int32) (a6' a7' a8' a9' : Nat → Int32), post (nI j) (pr, 0, sh', rc', le', kn, ll, a1, a2, a3, a4, a5, a6', a7', a8', a9', a10, a11, a12)) : wX_firstOwner_2 post (nI t) (n + 1) (nI j) pr 0 sh rc le kn ll a1 a2 a3 a4 a5 a6 a7 a8 a9 a10 a11 a12 := by
  have cj : (nI j).toNatClampNeg = j := nI_clamp (by omega)
  have c12 : a12 (nI j).toNatClampNeg = nI (c + 1) := by rw [cj]; exact hj12
  have e12 : upd a12 (nI j).toNatClampNeg (((a12 (nI j).toNatClampNeg) - 1).toInt8.toInt32) = upd a12 j (nI c) := by rw [c12, nI_pred, dk_i8 c (by omega), cj]
  have e13 : upd (upd a12 j (nI c)) (nI j).toNatClampNeg ((((upd a12 j (nI c)) (nI j).toNatClampNeg) + 1).toInt8.toInt32) = a12 := by
    rw [cj, pk_us, nI_1, dk_i8 (c + 1) (by omega)]
    exact dk_uu hj12
  refine pk_le 6 j (fun z => absurd z (by omega)) (fun _ => dk_begin_2 (fun b6 h6 => ⟨pk_in j 6 (by omega), ?_⟩))
  refine pk_le (c + 1) 0 (fun z => absurd z (by omega)) (fun _ => ?_) (hx := c12)
  refine dk_win hj he (by omega) (Nat.le_refl 5) hW (dk_S_0 he) (fun z => absurd z (by omega)) (fun _ _ => br_f (by decide) ⟨pk_in j 6 (by omega), pk_in j 6 (by omega), nm_r e12 ?_⟩)
  rw [nI_1 t]
  exact dk_rest (by omega) he hfit hW hG (fun sh' rc' le' a6' a7' a8' a9' => ⟨pk_in j 6 (by omega), pk_in j 6 (by omega), nm_r e13 (br_f (by decide) (H sh' rc' le' a6' a7' a8' a9'))⟩)
theorem dk_owner {post : Int32 → St2 → Prop} {pr sh rc le kn ll : Int32} {a1 a2 a3 a4 a5 a6 a7 a8 a9 a10 a11 a12 : Nat → Int32} {t e c0 c1 : Nat} (ht : t < 24) (he : e ≤ 24) (h0 : c0 < 100) (h1 : c1 < 100) (hW : dk_W e a1 a2) (hG : dk_G c0 c1 a12) (hfit : 5 ≤ t → t < e → t + c0 + c1 ≤ e)
    (Hn : (t < 5 ∨ e ≤ t ∨ (c0 = 0 ∧ c1 = 0)) → ∀ (sh' rc' le' : Int32) (a6' a7' a8' a9' : Nat → Int32), post (-1) (pr, 0, sh', rc', le', kn, ll, a1, a2, a3, a4, a5, a6', a7', a8', a9', a10, a11, a12))
    (H0 : 5 ≤ t → t < e → 0 < c0 → ∀ (sh' rc' le' : Int32) (a6' a7' a8' a9' : Nat → Int32), post (nI 0) (pr, 0, sh', rc', le', kn, ll, a1, a2, a3, a4, a5, a6', a7', a8', a9', a10, a11, a12))
    (H1 : 5 ≤ t → t < e → c0 = 0 → 0 < c1 → ∀ (sh' rc' le' : Int32) (a6' a7' a8' a9' : Nat → Int32), post (nI 1) (pr, 0, sh', rc', le', kn, ll, a1, a2, a3, a4, a5, a6', a7', a8', a9', a10, a11, a12)) : wpX_firstOwner post (pr, 0, sh, rc, le, kn, ll, a1, a2, a3, a4, a5, a6, a7, a8, a9, a10, a11, a12) (nI t) := by
  by_cases w : t < 5 ∨ e ≤ t ∨ (c0 = 0 ∧ c1 = 0)
  · refine dk_foSkip (k := 6) ht he (by omega) hW (fun i hi => ?_) (fun n sh' a6' => pk_le 6 6 (fun _ => Hn w sh' _ _ a6' _ _ _) (fun z => absurd z (by omega)))
    by_cases i2 : i < 2
    · by_cases w2 : t < 5 ∨ e ≤ t
      · exact Or.inr ⟨i2, w2⟩
      · have w3 : c0 = 0 ∧ c1 = 0 := by omega
        left
        rcases (show i = 0 ∨ i = 1 by omega) with r | r
        · rw [r, hG.1, w3.1]
        · rw [r, hG.2.1, w3.2]
    · exact Or.inl (hG.2.2 i (by omega) hi)
  · have w1 : 5 ≤ t := by omega
    have w2 : t < e := by omega
    have w3 := hfit w1 w2
    by_cases z : 0 < c0
    · obtain ⟨d, rfl⟩ : ∃ d, c0 = d + 1 := ⟨c0 - 1, by omega⟩
      exact dk_foSkip (k := 0) ht he (by omega) hW (fun i hi => absurd hi (by omega)) (fun n sh' a6' => dk_foRet (j := 0) (by omega) w1 w2 he hW (by omega) hG.1 (dk_G_0 hG) (by omega) (H0 w1 w2 z))
    · obtain ⟨d, rfl⟩ : ∃ d, c1 = d + 1 := ⟨c1 - 1, by omega⟩
      refine dk_foSkip (k := 1) ht he (by omega) hW (fun i hi => Or.inl ?_) (fun n sh' a6' => dk_foRet (j := 1) (by omega) w1 w2 he hW (by omega) hG.2.1 (dk_G_1 hG) (by omega) (H1 w1 w2 (by omega) (by omega)))
      rw [show i = 0 by omega, hG.1, show c0 = 0 by omega]
/-- the first plan, below unit k -/
def dk_P (one two k : Nat) (f : Nat → Int32) : Prop := ∀ s, s < k → (5 ≤ s → s < 5 + one → f s = nI 0) ∧ (5 + one ≤ s → s < 5 + one + two → f s = nI 1) ∧ ((s < 5 ∨ 5 + one + two ≤ s) → f s = -1)
theorem dk_P_s {one two k : Nat} {f : Nat → Int32} {r : Int32} (h : dk_P one two k f) (h0 : 5 ≤ k → k < 5 + one → r = nI 0) (h1 : 5 + one ≤ k → k < 5 + one + two → r = nI 1) (h2 : (k < 5 ∨ 5 + one + two ≤ k) → r = -1) : dk_P one two (k + 1) (upd f k r) := by
  intro s hs
  by_cases q : s = k
  · rw [q, pk_us]
    exact ⟨h0, h1, h2⟩
  · rw [pk_un q]
    exact h s (by omega)
theorem dk_68 {post : St2 → Prop} {sh rc le ll : Int32} {a1 a2 a3 a4 a5 a6 a7 a8 a9 a10 a11 a12 : Nat → Int32} {n one two : Nat} (hn : n ≤ 12) (ho : one + two ≤ n) (hW : dk_W (5 + n) a1 a2) (hG : dk_G one two a12)
    (H : ∀ (sh' rc' le' : Int32) (a6' a7' a8' a9' a11' a12' : Nat → Int32), dk_P one two 24 a11' → post (3, 0, sh', rc', le', 1, ll, a1, a2, a3, a4, a5, a6', a7', a8', a9', a10, a11', a12')) :
    ∃ fu, wX_learn_68 post fu 0 3 0 sh rc le 0 ll a1 a2 a3 a4 a5 a6 a7 a8 a9 a10 a11 a12 := by
  refine pk_loop (σ := Int32 × Int32 × Int32 × (Nat → Int32) × (Nat → Int32) × (Nat → Int32) × (Nat → Int32) × (Nat → Int32) × (Nat → Int32))
    (fun n i s => wX_learn_68 post n (nI i) 3 0 s.1 s.2.1 s.2.2.1 0 ll a1 a2 a3 a4 a5 s.2.2.2.1 s.2.2.2.2.1 s.2.2.2.2.2.1 s.2.2.2.2.2.2.1 a10 s.2.2.2.2.2.2.2.1 s.2.2.2.2.2.2.2.2)
    (fun i s => dk_G (one - min (i - 5) n) (two - (min (i - 5) n - one)) s.2.2.2.2.2.2.2.2 ∧ dk_P one two i s.2.2.2.2.2.2.2.1) 24 0 (sh, rc, le, a6, a7, a8, a9, a11, a12) (by omega) ⟨dk_G_eq hG (by omega) (by omega), fun s hs => absurd hs (by omega)⟩ ?_ ?_
  · rintro k ⟨sh', rc', le', a6', a7', a8', a9', a11', a12'⟩ h
    exact pk_le 24 24 (fun _ => H sh' rc' le' a6' a7' a8' a9' a11' a12' h.2) (fun z => absurd z (by omega))
  · rintro k t ⟨sh', rc', le', a6', a7', a8', a9', f, g⟩ ht h hw
    have hg : dk_G (one - min (t - 5) n) (two - (min (t - 5) n - one)) g := h.1
    have hf : dk_P one two t f := h.2
    clear h
    have ct : (nI t).toNatClampNeg = t := nI_clamp (by omega)
    refine pk_le 24 t (fun z => absurd z (by omega)) (fun _ => ?_)
    show wpX_firstOwner _ (3, 0, sh', rc', le', 0, ll, a1, a2, a3, a4, a5, a6', a7', a8', a9', a10, f, g) (nI t)
    refine dk_owner ht (by omega) (by omega) (by omega) hW hg (fun _ _ => by omega) (fun w sh1 rc1 le1 b6 b7 b8 b9 => ?_) (fun w1 w2 w3 sh1 rc1 le1 b6 b7 b8 b9 => ?_) (fun w1 w2 w3 w4 sh1 rc1 le1 b6 b7 b8 b9 => ?_)
    · have e11 : upd f (nI t).toNatClampNeg (-1 : Int32).toInt8.toInt32 = upd f t (-1) := by rw [ct, dk_i8m]
      have cr : upd f t (-1) (nI t).toNatClampNeg = -1 := by rw [ct, pk_us]
      refine ⟨pk_in t 24 ht, nm_r e11 ⟨pk_in t 24 ht, br_t (by rw [cr]; decide) (nm_r (nI_1 t) (hw (sh1, rc1, le1, b6, b7, b8, b9, upd f t (-1), g) ⟨dk_G_eq hg (by omega) (by omega), dk_P_s hf (fun z1 z2 => absurd w (by omega)) (fun z1 z2 => absurd w (by omega)) (fun _ => rfl)⟩))⟩⟩
    · have e11 : upd f (nI t).toNatClampNeg (nI 0).toInt8.toInt32 = upd f t (nI 0) := by rw [ct, dk_i8 0 (by omega)]
      have cr : upd f t (nI 0) (nI t).toNatClampNeg = nI 0 := by rw [ct, pk_us]
      have cz : (nI 0).toNatClampNeg = 0 := nI_clamp (by omega)
      have e12 : upd g (upd f t (nI 0) (nI t).toNatClampNeg).toNatClampNeg (((g (upd f t (nI 0) (nI t).toNatClampNeg).toNatClampNeg) - 1).toInt8.toInt32) = upd g 0 (nI (one - min (t - 5) n - 1)) := by
        rw [cr, cz, hg.1]
        obtain ⟨d, hd⟩ : ∃ d, one - min (t - 5) n = d + 1 := ⟨one - min (t - 5) n - 1, by omega⟩
        rw [hd, nI_pred, dk_i8 d (by omega)]
        rfl
      refine ⟨pk_in t 24 ht, nm_r e11 ⟨pk_in t 24 ht, br_f (by rw [cr]; decide) ⟨pk_in t 24 ht, pk_in 0 6 (by omega) (hx := cr), pk_in 0 6 (by omega) (hx := cr), nm_r e12 (nm_r (nI_1 t) (hw (sh1, rc1, le1, b6, b7, b8, b9, upd f t (nI 0), upd g 0 (nI (one - min (t - 5) n - 1))) ⟨dk_G_eq (dk_G_0 hg) (by omega) (by omega), dk_P_s hf (fun _ _ => rfl) (fun z1 z2 => absurd w3 (by omega)) (fun z1 => absurd w3 (by omega))⟩))⟩⟩⟩
    · have e11 : upd f (nI t).toNatClampNeg (nI 1).toInt8.toInt32 = upd f t (nI 1) := by rw [ct, dk_i8 1 (by omega)]
      have cr : upd f t (nI 1) (nI t).toNatClampNeg = nI 1 := by rw [ct, pk_us]
      have cz : (nI 1).toNatClampNeg = 1 := nI_clamp (by omega)
      have e12 : upd g (upd f t (nI 1) (nI t).toNatClampNeg).toNatClampNeg (((g (upd f t (nI 1) (nI t).toNatClampNeg).toNatClampNeg) - 1).toInt8.toInt32) = upd g 1 (nI (two - (min (t - 5) n - one) - 1)) := by
        rw [cr, cz, hg.2.1]
        obtain ⟨d, hd⟩ : ∃ d, two - (min (t - 5) n - one) = d + 1 := ⟨two - (min (t - 5) n - one) - 1, by omega⟩
        rw [hd, nI_pred, dk_i8 d (by omega)]
        rfl
      refine ⟨pk_in t 24 ht, nm_r e11 ⟨pk_in t 24 ht, br_f (by rw [cr]; decide) ⟨pk_in t 24 ht, pk_in 1 6 (by omega) (hx := cr), pk_in 1 6 (by omega) (hx := cr), nm_r e12 (nm_r (nI_1 t) (hw (sh1, rc1, le1, b6, b7, b8, b9, upd f t (nI 1), upd g 1 (nI (two - (min (t - 5) n - one) - 1))) ⟨dk_G_eq (dk_G_1 hg) (by omega) (by omega), dk_P_s hf (fun z1 z2 => absurd w3 (by omega)) (fun _ _ => rfl) (fun z1 => absurd w4 (by omega))⟩))⟩⟩⟩
theorem dk_22 {post : St2 → Prop} {sh rc le ll : Int32} {a1 a2 a3 a4 a5 a6 a7 a8 a9 a10 a11 a12 : Nat → Int32} {one two : Nat} (ho : one < 100) (ht : two < 100) (h3 : ∀ j, j < 6 → a3 j = 0) (k0 : a10 0 = nI one) (k1 : a10 1 = nI two)
    (H : ∀ a12', dk_G one two a12' → ∃ fu, wX_learn_68 post fu 0 3 0 sh rc le 0 ll a1 a2 a3 a4 a5 a6 a7 a8 a9 a10 a11 a12') : ∃ fu, wX_learn_22 post 3 0 sh rc le 0 ll fu 0 a1 a2 a3 a4 a5 a6 a7 a8 a9 a10 a11 a12 := by
  refine pk_loop (σ := Nat → Int32) (fun n i s => wX_learn_22 post 3 0 sh rc le 0 ll n (nI i) a1 a2 a3 a4 a5 a6 a7 a8 a9 a10 a11 s) (fun i s => (0 < i → s 0 = nI one) ∧ (1 < i → s 1 = nI two) ∧ ∀ j, 2 ≤ j → j < i → s j = nI 0) 6 0 a12 (by omega) ⟨fun z => absurd z (by omega), fun z => absurd z (by omega), fun j _ z => absurd z (by omega)⟩ ?_ ?_
  · intro n s h
    exact pk_le 6 6 (fun _ => H s ⟨h.1 (by omega), h.2.1 (by omega), h.2.2⟩) (fun z => absurd z (by omega))
  · intro n i s hi h hw
    have ci : (nI i).toNatClampNeg = i := nI_clamp (by omega)
    refine pk_le 6 i (fun z => absurd z (by omega)) (fun _ => dk_has hi (br_c (fun z => ?_) (fun z => ?_)))
    · have i2 : 2 ≤ i := (dk_bit3 i hi).mp z
      have e12 : upd s (nI i).toNatClampNeg ((0 : Int32).toInt8.toInt32) = upd s i (nI 0) := by rw [ci]; rfl
      refine br_t rfl ⟨pk_in i 6 hi, nm_r e12 (nm_r (nI_1 i) (hw _ ⟨fun _ => ?_, fun _ => ?_, fun j j1 j2 => ?_⟩))⟩
      · rw [pk_un (by omega)]
        exact h.1 (by omega)
      · rw [pk_un (by omega)]
        exact h.2.1 (by omega)
      · by_cases q : j = i
        · rw [q, pk_us]
        · rw [pk_un q]
          exact h.2.2 j j1 (by omega)
    · have i2 : i < 2 := by
        rcases Nat.lt_or_ge i 2 with r | r
        · exact r
        · exact absurd ((dk_bit3 i hi).mpr r) z
      obtain ⟨m, hm, em⟩ : ∃ m, m < 100 ∧ a10 i = nI m := by
        rcases (show i = 0 ∨ i = 1 by omega) with r | r
        · exact ⟨one, ho, by rw [r]; exact k0⟩
        · exact ⟨two, ht, by rw [r]; exact k1⟩
      have e12 : upd s (nI i).toNatClampNeg (((a3 (nI i).toNatClampNeg) + (a10 (nI i).toNatClampNeg)).toInt8.toInt32) = upd s i (a10 i) := by
        rw [ci, h3 i hi, em, ← nI_0, nI_add, Nat.zero_add, dk_i8 m (by omega)]
      refine br_f (by decide) ⟨pk_in i 6 hi, pk_in i 6 hi, pk_in i 6 hi, nm_r e12 (nm_r (nI_1 i) (hw _ ⟨fun _ => ?_, fun z2 => ?_, fun j j1 j2 => absurd j1 (by omega)⟩))⟩
      · rcases (show i = 0 ∨ i = 1 by omega) with r | r
        · rw [r, pk_us]
          exact k0
        · rw [pk_un (by omega)]
          exact h.1 (by omega)
      · rw [show i = 1 by omega, pk_us]
        exact k1
theorem dk_Q_le {n a b u v one two : Nat} (h : dk_Q n a b u v one two) : one + two ≤ n ∧ one ≤ a ∧ two ≤ b := by
  rcases Nat.lt_or_ge u v with r | r
  · have := h.2 r
    omega
  · have := h.1 r
    omega
theorem dk_learn {post : St2 → Prop} {sh rc le ll : Int32} {a1 a2 a3 a4 a5 a6 a7 a8 a9 a10 a11 a12 : Nat → Int32} {n a b u v one two : Nat} (hn : n ≤ 12) (ha : a < 7) (hb : b < 7) (hu : u < 10) (hv : v < 10) (hQ : dk_Q n a b u v one two) (hW : dk_W (5 + n) a1 a2) (h3 : ∀ j, j < 6 → a3 j = 0) (h40 : a4 0 = nI a) (h41 : a4 1 = nI b) (h50 : a5 0 = nI u) (h51 : a5 1 = nI v)
    (H : ∀ (sh' rc' le' : Int32) (a6' a7' a8' a9' a10' a11' a12' : Nat → Int32), a10' 0 = nI one → a10' 1 = nI two → dk_P one two 24 a11' → post (3, 0, sh', rc', le', 1, nI (u * (a - one) + v * (b - two)), a1, a2, a3, a4, a5, a6', a7', a8', a9', a10', a11', a12')) : wpX_learn post (3, 0, sh, rc, le, 0, ll, a1, a2, a3, a4, a5, a6, a7, a8, a9, a10, a11, a12) := by
  have q := dk_Q_le hQ
  exact br_t rfl (dk_least hn ha hb hu hv hQ hW h3 h40 h41 h50 h51 (fun rc' le' a6' a7' a8' a9' a10' k0 k1 => dk_22 (by omega) (by omega) h3 k0 k1 (fun g hg => dk_68 hn q.1 hW hg (fun sh1 rc1 le1 b6 b7 b8 b9 b11 b12 hP => H sh1 rc1 le1 b6 b7 b8 b9 a10' b11 b12 k0 k1 hP))))
end
section
theorem dk_cnt0 {post : Int32 → Prop} (H : post 0) : wpX_count post () 0 :=
  pk_loop (σ := Int32) (fun n i s => wX_count_4 post 0 n s (nI i)) (fun _ s => s = 0) 24 0 0 (by omega) rfl
    (fun n s h => pk_le 24 24 (fun _ => ek_v (P := post) h H) (fun z => absurd z (by omega)))
    (fun n i s hi h hw => pk_le 24 i (fun z => absurd z (by omega)) (fun _ => nm_e (nm_r (nI_1 i) (hw _ (by rw [h, dk_bit0 i hi]; rfl)))))
theorem dk_cntS {post : Int32 → Prop} {e : Nat} (he : e < 18) (he6 : 6 ≤ e) (H : post (nI (e - 5))) : wpX_count post () (((((1 : Int32) <<< (nI e &&& 31)) - 1) &&& ((((1 : Int32) <<< ((5 : Int32) &&& 31)) - 1) ^^^ (-1))) &&& ((0 : Int32) ^^^ (-1))) :=
  pk_loop (σ := Int32) (fun n i s => wX_count_4 post (((((1 : Int32) <<< (nI e &&& 31)) - 1) &&& ((((1 : Int32) <<< ((5 : Int32) &&& 31)) - 1) ^^^ (-1))) &&& ((0 : Int32) ^^^ (-1))) n s (nI i)) (fun i s => s = nI (min i e - 5)) 24 0 0 (by omega) (by rw [show min 0 e - 5 = 0 by omega]; rfl)
    (fun n s h => pk_le 24 24 (fun _ => ek_v (P := post) h (by rw [show min 24 e = e by omega]; exact H)) (fun z => absurd z (by omega)))
    (fun n i s hi h hw => pk_le 24 i (fun z => absurd z (by omega)) (fun _ => nm_e (nm_r (nI_1 i) (hw _ (by rw [h, dk_span e he he6 i hi, nI_add, show min i e - 5 + (min (i + 1) e - 5 - (min i e - 5)) = min (i + 1) e - 5 by omega])))))
theorem dk_min {post : Int32 → Prop} {x y : Nat} (hx : x < 2 ^ 31) (hy : y < 2 ^ 31) (H : post (nI (min x y))) : wpL_min post () (nI x) (nI y) :=
  pk_le y x (fun z => ek_v (P := post) (by rw [show min x y = y by omega]) H) (fun z => ek_v (P := post) (by rw [show min x y = x by omega]) H)
theorem dk_kept0 {post : Int32 → St2 → Prop} {sh rc le ll : Int32} {a1 a2 a3 a4 a5 a6 a7 a8 a9 a10 a11 a12 : Nat → Int32} {n a b u v one two : Nat} (hn : n ≤ 12) (ha : a < 7) (hb : b < 7) (hu : u < 10) (hv : v < 10) (hQ : dk_Q n a b u v one two) (hW : dk_W (5 + n) a1 a2) (h3 : ∀ j, j < 6 → a3 j = 0) (h40 : a4 0 = nI a) (h41 : a4 1 = nI b) (h50 : a5 0 = nI u) (h51 : a5 1 = nI v)
    (H : ∀ (sh' rc' le' : Int32) (a6' a7' a8' a9' a10' a11' a12' : Nat → Int32), a10' 0 = nI one → a10' 1 = nI two → dk_P one two 24 a11' → post (nI one) (3, 0, sh', rc', le', 1, nI (u * (a - one) + v * (b - two)), a1, a2, a3, a4, a5, a6', a7', a8', a9', a10', a11', a12')) : wpX_kept post (3, 0, sh, rc, le, 0, ll, a1, a2, a3, a4, a5, a6, a7, a8, a9, a10, a11, a12) 0 := by
  unfold wpX_kept
  refine dk_has3 (j := 0) (by omega) (br_f (by decide) (dk_learn hn ha hb hu hv hQ hW h3 h40 h41 h50 h51 (fun sh' rc' le' a6' a7' a8' a9' a10' a11' a12' k0 k1 kP => ⟨pk_in 0 6 (by omega), ?_⟩)))
  have e : a10' (0 : Int32).toNatClampNeg = nI one := k0
  rw [e]
  exact H sh' rc' le' a6' a7' a8' a9' a10' a11' a12' k0 k1 kP
theorem dk_kept1 {post : Int32 → St2 → Prop} {sh rc le ll : Int32} {a1 a2 a3 a4 a5 a6 a7 a8 a9 a10 a11 a12 : Nat → Int32} {two : Nat} (k1 : a10 1 = nI two) (H : post (nI two) (3, 0, sh, rc, le, 1, ll, a1, a2, a3, a4, a5, a6, a7, a8, a9, a10, a11, a12)) : wpX_kept post (3, 0, sh, rc, le, 1, ll, a1, a2, a3, a4, a5, a6, a7, a8, a9, a10, a11, a12) 1 := by
  unfold wpX_kept
  refine dk_has3 (j := 1) (by omega) (br_f (by decide) (br_f (by decide) ⟨pk_in 1 6 (by omega), ?_⟩))
  have e : a10 (1 : Int32).toNatClampNeg = nI two := k1
  rw [e]
  exact H
theorem dk_loss {post : Int32 → St2 → Prop} {sh rc le ll : Int32} {a1 a2 a3 a4 a5 a6 a7 a8 a9 a10 a11 a12 : Nat → Int32} (H : post ll (3, 0, sh, rc, le, 1, ll, a1, a2, a3, a4, a5, a6, a7, a8, a9, a10, a11, a12)) : wpX_loss post (3, 0, sh, rc, le, 1, ll, a1, a2, a3, a4, a5, a6, a7, a8, a9, a10, a11, a12) := by
  unfold wpX_loss
  exact br_f (by decide) H
theorem dk_at {post : Int32 → St2 → Prop} {sh rc le ll : Int32} {a1 a2 a3 a4 a5 a6 a7 a8 a9 a10 a11 a12 : Nat → Int32} {t : Nat} (ht : t < 24) (H : post (a11 t) (3, 0, sh, rc, le, 1, ll, a1, a2, a3, a4, a5, a6, a7, a8, a9, a10, a11, a12)) : wpX_at post (3, 0, sh, rc, le, 1, ll, a1, a2, a3, a4, a5, a6, a7, a8, a9, a10, a11, a12) (nI t) := by
  refine br_f (nI_pos (by omega)) (pk_lt t 24 (fun _ => br_f (by decide) ⟨pk_in t 24 ht, ?_⟩) (fun z => absurd z (by omega)))
  rw [show (nI t).toNatClampNeg = t from nI_clamp (by omega)]
  exact H
theorem dk_idle {post : Int32 → St2 → Prop} {sh rc le ll : Int32} {a1 a2 a3 a4 a5 a6 a7 a8 a9 a10 a11 a12 : Nat → Int32} {one two : Nat} (ho : one + two ≤ 24) (h3 : ∀ j, j < 6 → a3 j = 0) (k0 : a10 0 = nI one) (k1 : a10 1 = nI two) (H : post (nI (24 - one - two)) (3, 0, sh, rc, le, 1, ll, a1, a2, a3, a4, a5, a6, a7, a8, a9, a10, a11, a12)) : wpX_idle post (3, 0, sh, rc, le, 1, ll, a1, a2, a3, a4, a5, a6, a7, a8, a9, a10, a11, a12) := by
  unfold wpX_idle
  refine br_f (by decide) (dk_cnt0 (nm_r (e' := nI 24) rfl ⟨7, ?_⟩))
  have e0 : nI 24 - ((a3 (0 : Int32).toNatClampNeg) + (a10 (0 : Int32).toNatClampNeg)) = nI (24 - one) := by
    rw [show a3 (0 : Int32).toNatClampNeg = 0 from h3 0 (by omega), show a10 (0 : Int32).toNatClampNeg = nI one from k0, ← nI_0, nI_add, Nat.zero_add, pk_sub (by omega)]
  have e1 : nI (24 - one) - ((a3 (nI (0 + 1)).toNatClampNeg) + (a10 (nI (0 + 1)).toNatClampNeg)) = nI (24 - one - two) := by
    rw [show a3 (nI (0 + 1)).toNatClampNeg = 0 from h3 1 (by omega), show a10 (nI (0 + 1)).toNatClampNeg = nI two from k1, ← nI_0, nI_add, Nat.zero_add, pk_sub (by omega)]
  refine pk_le 6 0 (fun z => absurd z (by omega)) (fun _ => dk_has3 (j := 0) (by omega) (br_f (by decide) ⟨pk_in 0 6 (by omega), pk_in 0 6 (by omega), nm_r e0 (nm_r (nI_1 0) ?_)⟩))
  refine pk_le 6 1 (fun z => absurd z (by omega)) (fun _ => dk_has3 (j := 1) (by omega) (br_f (by decide) ⟨pk_in 1 6 (by omega), pk_in 1 6 (by omega), nm_r e1 (nm_r (nI_1 1) ?_)⟩))
  exact loop_i (σ := Unit) (fun n i _ => wX_idle_17 post 3 0 sh rc le 1 ll a1 a2 a3 a4 a5 a6 a7 a8 a9 a10 a11 a12 n (nI (24 - one - two)) (nI i)) (fun i _ => 2 ≤ i) 6
    (fun n _ _ => pk_le 6 6 (fun _ => H) (fun z => absurd z (by omega)))
    (fun n i _ hi h hw => pk_le 6 i (fun z => absurd z (by omega)) (fun _ => dk_has hi (br_t ((dk_bit3 i hi).mpr h) (br_t rfl (nm_r (nI_1 i) (hw () (Nat.le_succ_of_le h)))))))
    5 2 () (by omega) (by omega) (Nat.le_refl 2)
theorem dk_great {post : Int32 → St2 → Prop} {sh rc le ll : Int32} {a1 a2 a3 a4 a5 a6 a7 a8 a9 a10 a11 a12 : Nat → Int32} {n : Nat} (hn : n ≤ 12) (hW : dk_W (5 + n) a1 a2) (h3 : ∀ j, j < 6 → a3 j = 0)
    (H : ∀ (sh' rc' le' : Int32) (a6' a7' a8' a9' : Nat → Int32), post (nI (min 6 n)) (3, 0, sh', rc', le', 1, ll, a1, a2, a3, a4, a5, a6', a7', a8', a9', a10, a11, a12)) : wpX_greatestMust post (3, 0, sh, rc, le, 1, ll, a1, a2, a3, a4, a5, a6, a7, a8, a9, a10, a11, a12) 1 := by
  unfold wpX_greatestMust
  refine dk_has3 (j := 1) (by omega) (br_f (by decide) (dk_begin (fun b6 h6 => dk_musts h3 ⟨pk_in 1 6 (by omega), nm_r (e' := nI 0) (h3 1 (by omega)) ?_⟩)))
  have S0 : dk_S 5 (5 + n) 0 := dk_S_0 (by omega)
  refine pk_loop (σ := Int32 × Int32 × (Nat → Int32) × (Nat → Int32) × (Nat → Int32) × (Nat → Int32)) (fun k i s => wX_greatestMust_30 post 1 k (nI i) 3 0 0 s.1 s.2.1 1 ll a1 a2 a3 a4 a5 s.2.2.1 s.2.2.2.1 s.2.2.2.2.1 s.2.2.2.2.2 a10 a11 a12) (fun i s => dk_O 5 (5 + i) (5 + n) s.2.2.1) (min 6 n) 0 (rc, le, b6, a7, a8, a9) (by omega) (dk_O_0 (by omega) h6) ?_ ?_
  · rintro k ⟨rc', le', a6', a7', a8', a9'⟩ h
    have h : dk_O 5 (5 + min 6 n) (5 + n) a6' := h
    refine pk_le 6 (min 6 n) (fun _ => H 0 rc' le' a6' a7' a8' a9') (fun z => ?_)
    exact dk_give (j := 1) (by omega) (by omega) (Nat.le_refl 5) (by omega) (by omega) hW S0 h (fun _ rc' le' a7' a8' a9' => br_t rfl (H 0 rc' le' a6' a7' a8' a9')) (fun z => absurd z (by omega))
  · rintro k i ⟨rc', le', a6', a7', a8', a9'⟩ hi h hw
    have h : dk_O 5 (5 + i) (5 + n) a6' := h
    refine pk_le 6 i (fun z => absurd z (by omega)) (fun z => ?_)
    exact dk_give (j := 1) (by omega) (by omega) (Nat.le_refl 5) (by omega) (by omega) hW S0 h (fun z => absurd z (by omega)) (fun z rc' le' a6' a7' a8' a9' h' => br_f (by decide) (nm_r (nI_1 i) (hw (rc', le', a6', a7', a8', a9') h')))
theorem dk_free {post : Int32 → St2 → Prop} {sh rc le ll : Int32} {a1 a2 a3 a4 a5 a6 a7 a8 a9 a10 a11 a12 : Nat → Int32} {n : Nat} (hn : n ≤ 12) (hn1 : 1 ≤ n) (h3 : ∀ j, j < 6 → a3 j = 0)
    (H : ∀ (sh' : Int32) (a6' : Nat → Int32), post (nI n) (3, 0, sh', rc, le, 1, ll, a1, a2, a3, a4, a5, a6', a7, a8, a9, a10, a11, a12)) : wpX_freeable post (3, 0, sh, rc, le, 1, ll, a1, a2, a3, a4, a5, a6, a7, a8, a9, a10, a11, a12) 5 (nI (5 + n)) := by
  refine br_f (by decide) (pk_lt 24 (5 + n) (fun z => absurd z (by omega)) (fun _ => pk_lt 5 (5 + n) (fun _ => ?_) (fun z => absurd z (by omega))))
  refine nm_e (dk_begin (fun b6 h6 => ?_))
  refine pk_loop (σ := Unit) (fun k i _ => wX_freeable_49 post (((((1 : Int32) <<< (nI (5 + n) &&& 31)) - 1) &&& ((((1 : Int32) <<< ((5 : Int32) &&& 31)) - 1) ^^^ (-1))) &&& ((0 : Int32) ^^^ (-1))) k 0 0 (nI i) 3 0 (((0 : Int32) ||| (((((1 : Int32) <<< (nI (5 + n) &&& 31)) - 1) &&& ((((1 : Int32) <<< ((5 : Int32) &&& 31)) - 1) ^^^ (-1))) &&& ((0 : Int32) ^^^ (-1))))) rc le 1 ll a1 a2 a3 a4 a5 b6 a7 a8 a9 a10 a11 a12) (fun _ _ => True) 6 0 () (by omega) trivial ?_ ?_
  · intro k _ _
    refine pk_le 6 6 (fun _ => dk_cntS (e := 5 + n) (by omega) (by omega) ?_) (fun z => absurd z (by omega))
    have e : nI (5 + n - 5) - ((0 : Int32) - 0) = nI n := by
      rw [show 5 + n - 5 = n by omega, show (0 : Int32) - 0 = nI 0 by rfl, pk_sub (by omega), Nat.sub_zero]
    rw [e]
    exact H _ b6
  · intro k i _ hi _ hw
    have c3 : a3 (nI i).toNatClampNeg = 0 := by rw [show (nI i).toNatClampNeg = i from nI_clamp (by omega)]; exact h3 i hi
    refine pk_le 6 i (fun z => absurd z (by omega)) (fun _ => dk_has hi (br_c (fun _ => br_t rfl (nm_r (e' := 0) rfl ⟨1, ?_⟩)) (fun _ => br_f (by decide) ⟨pk_in i 6 hi, nm_r c3 (nm_r (e' := 0) rfl ⟨1, ?_⟩)⟩)))
    · exact pk_le 0 0 (fun _ => nm_r (nI_1 i) (hw () trivial)) (fun z => absurd z (by omega))
    · exact pk_le 0 0 (fun _ => nm_r (nI_1 i) (hw () trivial)) (fun z => absurd z (by omega))
end
section
theorem dk_351 {post : Int32 → St0 → Prop} (HP : post 1 ()) {mc ms kc ks n : Nat} {z0 z1 : Int32} (hn : n ≤ 12) (hz : z1 = z0) : wL_lawOf_351 post mc ms (nI n) (nI (min 6 n)) (nI n) z0 z1 kc ks := by
  unfold wL_lawOf_351
  exact br_t hz (dk_min (x := 6) (y := n) (by omega) (by omega) (br_t rfl (br_t rfl HP)))
theorem dk_322 {post : Int32 → St0 → Prop} (HP : post 1 ()) {mc ms kc ks n one two : Nat} {z0 z1 : Int32} {f : Nat → Int32} (hn : n ≤ 12) (hn1 : 1 ≤ n) (ho : one + two ≤ n) (hP : dk_P one two 24 f) (hz : z1 = z0) : wL_lawOf_322 post mc ms (nI n) (nI one) (nI two) (f (4 + n)) (nI (min 6 n)) (nI n) z0 z1 kc ks := by
  unfold wL_lawOf_322
  have hp := hP (4 + n) (by omega)
  exact br_t hz (pk_le n (one + two) (fun z => pk_le two 0 (fun z2 => dk_351 HP hn (hp.1 (by omega) (by omega))) (fun z2 => dk_351 HP hn (hp.2.1 (by omega) (by omega)))) (fun z => dk_351 HP hn (hp.2.2 (by omega))) (hy := nI_add one two))
theorem dk_at_e {post : Int32 → St2 → Prop} {sh rc le ll : Int32} {a1 a2 a3 a4 a5 a6 a7 a8 a9 a10 a11 a12 : Nat → Int32} {t : Nat} {x : Int32} (hx : x = nI t) (ht : t < 24) (H : post (a11 t) (3, 0, sh, rc, le, 1, ll, a1, a2, a3, a4, a5, a6, a7, a8, a9, a10, a11, a12)) : wpX_at post (3, 0, sh, rc, le, 1, ll, a1, a2, a3, a4, a5, a6, a7, a8, a9, a10, a11, a12) x := by
  rw [hx]
  exact dk_at ht H
theorem dk_free_e {post : Int32 → St2 → Prop} {sh rc le ll : Int32} {a1 a2 a3 a4 a5 a6 a7 a8 a9 a10 a11 a12 : Nat → Int32} {n : Nat} {x : Int32} (hx : x = nI (5 + n)) (hn : n ≤ 12) (hn1 : 1 ≤ n) (h3 : ∀ j, j < 6 → a3 j = 0)
    (H : ∀ (sh' : Int32) (a6' : Nat → Int32), post (nI n) (3, 0, sh', rc, le, 1, ll, a1, a2, a3, a4, a5, a6', a7, a8, a9, a10, a11, a12)) : wpX_freeable post (3, 0, sh, rc, le, 1, ll, a1, a2, a3, a4, a5, a6, a7, a8, a9, a10, a11, a12) 5 x := by
  rw [hx]
  exact dk_free hn hn1 h3 H
theorem dk_183 {post : Int32 → St0 → Prop} (HP : post 1 ()) {mc ms kc ks : Nat} {sh rc le ll : Int32} {a1 a2 a3 a4 a5 a6 a7 a8 a9 a10 a11 a12 : Nat → Int32} {n a b u v one two : Nat} (hn : n ≤ 12) (hn1 : 1 ≤ n) (ha : a < 7) (hb : b < 7) (hu : u < 10) (hv : v < 10) (hQ : dk_Q n a b u v one two) (hW : dk_W (5 + n) a1 a2) (h3 : ∀ j, j < 6 → a3 j = 0) (h40 : a4 0 = nI a) (h41 : a4 1 = nI b) (h50 : a5 0 = nI u) (h51 : a5 1 = nI v) :
    wL_lawOf_183 post mc ms (nI n) (nI a) (nI b) (nI u) (nI v) (nI 1) (nI one) (nI two) kc ks 3 0 sh rc le 0 ll a1 a2 a3 a4 a5 a6 a7 a8 a9 a10 a11 a12 := by
  unfold wL_lawOf_183
  obtain ⟨q1, q2, q3⟩ := dk_Q_le hQ
  have es : nI (u * (a - one) + v * (b - two)) = (nI u * (nI a - nI one)) + (nI v * (nI b - nI two)) := by rw [pk_sub q2, pk_sub q3, pk_mul, pk_mul, nI_add]
  have ei : nI (24 - one - two) = (24 - nI one) - nI two := by
    rw [show (24 : Int32) = nI 24 from rfl, pk_sub (by omega), pk_sub (by omega)]
  refine dk_kept0 hn ha hb hu hv hQ hW h3 h40 h41 h50 h51 (fun sh1 rc1 le1 b6 b7 b8 b9 b10 b11 b12 k0 k1 kP => ?_)
  refine dk_kept1 k1 ?_
  refine dk_loss ?_
  refine dk_idle (by omega) h3 k0 k1 ?_
  refine dk_at_e (t := 5) rfl (by omega) ?_
  refine dk_at_e (t := 4 + n) (nI_add 4 n) (by omega) ?_
  refine dk_great hn hW h3 (fun sh2 rc2 le2 c6 c7 c8 c9 => ?_)
  refine dk_free_e (nI_add 5 n) hn hn1 h3 (fun sh3 d6 => ?_)
  have hp := kP 5 (by omega)
  refine br_t rfl (br_t rfl (br_t rfl (br_t es (br_t ei ?_))))
  exact pk_le one 0 (fun z => pk_le two 0 (fun z2 => dk_322 HP hn hn1 q1 kP (hp.2.2 (by omega))) (fun z2 => dk_322 HP hn hn1 q1 kP (hp.2.1 (by omega) (by omega)))) (fun z => dk_322 HP hn hn1 q1 kP (hp.1 (by omega) (by omega)))
theorem dk_124 {post : Int32 → St0 → Prop} (HP : post 1 ()) {mc ms kc ks : Nat} {sh rc le ll : Int32} {a1 a2 a3 a4 a5 a6 a7 a8 a9 a10 a11 a12 : Nat → Int32} {n a b u v : Nat} (hn : n ≤ 12) (hn1 : 1 ≤ n) (ha : a < 7) (hb : b < 7) (hu : u < 10) (hv : v < 10) (hW : dk_W (5 + n) a1 a2) (h3 : ∀ j, j < 6 → a3 j = 0) (h40 : a4 0 = nI a) (h41 : a4 1 = nI b) (h50 : a5 0 = nI u) (h51 : a5 1 = nI v) :
    (nI u < nI v → wL_lawOf_124 post mc ms (nI n) (nI a) (nI b) (nI u) (nI v) (nI 1) 0 kc ks 3 0 sh rc le 0 ll a1 a2 a3 a4 a5 a6 a7 a8 a9 a10 a11 a12) ∧ (¬ nI u < nI v → wL_lawOf_124 post mc ms (nI n) (nI a) (nI b) (nI u) (nI v) (nI 1) 1 kc ks 3 0 sh rc le 0 ll a1 a2 a3 a4 a5 a6 a7 a8 a9 a10 a11 a12) := by
  refine pk_lt u v (fun z => ?_) (fun z => ?_)
  · unfold wL_lawOf_124
    refine br_t rfl (dk_min (x := b) (y := n) (by omega) (by omega) ?_)
    rw [pk_sub (show min b n ≤ n by omega)]
    refine dk_min (x := a) (y := n - min b n) (by omega) (by omega) ?_
    unfold wL_lawOf_156
    refine br_t rfl (dk_min (x := b) (y := n) (by omega) (by omega) ?_)
    exact dk_183 HP hn hn1 ha hb hu hv ⟨fun f => absurd z (by omega), fun _ => ⟨rfl, rfl⟩⟩ hW h3 h40 h41 h50 h51
  · unfold wL_lawOf_124
    refine br_f (by decide) (dk_min (x := a) (y := n) (by omega) (by omega) ?_)
    unfold wL_lawOf_156
    rw [pk_sub (show min a n ≤ n by omega)]
    refine br_f (by decide) (dk_min (x := b) (y := n - min a n) (by omega) (by omega) ?_)
    exact dk_183 HP hn hn1 ha hb hu hv ⟨fun _ => ⟨rfl, rfl⟩, fun f => absurd z (by omega)⟩ hW h3 h40 h41 h50 h51
theorem dk_bring0e {post : Int32 → St2 → Prop} {bl sh rc le kn ll : Int32} {a1 a2 a3 a4 a5 a6 a7 a8 a9 a10 a11 a12 : Nat → Int32} {e a u : Nat} {x y : Int32} (hx : x = nI e) (hy : y = nI (8 * a + 64 * u)) (he : e < 25) (he5 : 5 < e) (ha : a < 7) (hu : u < 10) (hu0 : 0 < u) (h3 : ∀ j, j < 6 → a3 j = 0)
    (H : ∀ a6', (∀ t, t < 24 → a6' t = -1) → post (nI 0) (1, bl, bl, rc, le, 0, ll, upd a1 0 (nI 5), upd a2 0 (nI e), upd a3 0 0, upd a4 0 (nI a), upd a5 0 (nI u), a6', a7, a8, a9, a10, a11, a12)) :
    wpX_bring post (0, bl, sh, rc, le, kn, ll, a1, a2, a3, a4, a5, a6, a7, a8, a9, a10, a11, a12) 5 x y := by
  rw [hx, hy]
  exact dk_bring0 he he5 ha hu hu0 h3 H
theorem dk_bring1e {post : Int32 → St2 → Prop} {bl sh rc le kn ll : Int32} {a1 a2 a3 a4 a5 a6 a7 a8 a9 a10 a11 a12 : Nat → Int32} {e a u : Nat} {x y : Int32} (hx : x = nI e) (hy : y = nI (8 * a + 64 * u)) (he : e < 25) (he5 : 5 < e) (ha : a < 7) (hu : u < 10) (hu0 : 0 < u) (h3 : ∀ j, j < 6 → a3 j = 0)
    (H : ∀ a6', (∀ t, t < 24 → a6' t = -1) → post (nI 1) (3, bl, bl, rc, le, 0, ll, upd a1 1 (nI 5), upd a2 1 (nI e), upd a3 1 0, upd a4 1 (nI a), upd a5 1 (nI u), a6', a7, a8, a9, a10, a11, a12)) :
    wpX_bring post (1, bl, sh, rc, le, kn, ll, a1, a2, a3, a4, a5, a6, a7, a8, a9, a10, a11, a12) 5 x y := by
  rw [hx, hy]
  exact dk_bring1 he he5 ha hu hu0 h3 H
theorem dk_z {f : Nat → Int32} {k : Nat} (h : ∀ j, j < 6 → f j = 0) : ∀ j, j < 6 → upd f k 0 j = 0 := by
  intro j hj
  by_cases q : j = k
  · rw [q, pk_us]
  · rw [pk_un q]
    exact h j hj
theorem dk_u2 {f : Nat → Int32} {x y : Int32} : upd (upd f 0 x) 1 y 0 = x ∧ upd (upd f 0 x) 1 y 1 = y :=
  ⟨by rw [pk_un (by omega), pk_us], pk_us⟩
theorem dk_W2 {f g : Nat → Int32} {e : Nat} : dk_W e (upd (upd f 0 (nI 5)) 1 (nI 5)) (upd (upd g 0 (nI e)) 1 (nI e)) := by
  intro j hj
  rcases (show j = 0 ∨ j = 1 by omega) with r | r
  · rw [r]
    exact ⟨dk_u2.1, dk_u2.1⟩
  · rw [r]
    exact ⟨dk_u2.2, dk_u2.2⟩
theorem dk_packE (a u : Nat) : (8 * nI a) + (64 * nI u) = nI (8 * a + 64 * u) := by
  rw [show (8 : Int32) = nI 8 from rfl, show (64 : Int32) = nI 64 from rfl, pk_mul, pk_mul, nI_add]
theorem dk_mod {x : Int32} {j d : Nat} (h : x = nI j) (hj : j < 65536) (h0 : 0 < d) (hd : d < 100) : x - x / nI d * nI d = nI (j % d) := by
  rw [h]
  exact pk_rem (by omega) h0 (by omega)
theorem dk_lawOf {post : Int32 → St0 → Prop} (HP : post 1 ()) (x y z : Int32) : wpL_lawOf post 13 129 () x y z := by
  obtain ⟨j0, hj0, e0⟩ := pk_andE z (m := 65535) 16 (by decide)
  obtain ⟨j1, hj1, e1⟩ := pk_andE x (m := 255) 8 (by decide)
  obtain ⟨j2, hj2, e2⟩ := pk_andE y (m := 255) 8 (by decide)
  obtain ⟨j3, hj3, e3⟩ := pk_andE (x >>> ((8 : Int32) &&& 31)) (m := 255) 8 (by decide)
  obtain ⟨j4, hj4, e4⟩ := pk_andE (y >>> ((8 : Int32) &&& 31)) (m := 255) 8 (by decide)
  have en : 1 + ((z &&& 65535) - (z &&& 65535) / 12 * 12) = nI (1 + j0 % 12) := (congrArg (fun t => 1 + t) (dk_mod (d := 12) e0 (by omega) (by omega) (by omega))).trans (nI_add 1 _)
  have ea : (x &&& 255) - (x &&& 255) / 7 * 7 = nI (j1 % 7) := dk_mod (d := 7) e1 (by omega) (by omega) (by omega)
  have eb : (y &&& 255) - (y &&& 255) / 7 * 7 = nI (j2 % 7) := dk_mod (d := 7) e2 (by omega) (by omega) (by omega)
  have eu : 1 + (((x >>> ((8 : Int32) &&& 31)) &&& 255) - ((x >>> ((8 : Int32) &&& 31)) &&& 255) / 9 * 9) = nI (1 + j3 % 9) := (congrArg (fun t => 1 + t) (dk_mod (d := 9) e3 (by omega) (by omega) (by omega))).trans (nI_add 1 _)
  have ev : 1 + (((y >>> ((8 : Int32) &&& 31)) &&& 255) - ((y >>> ((8 : Int32) &&& 31)) &&& 255) / 9 * 9) = nI (1 + j4 % 9) := (congrArg (fun t => 1 + t) (dk_mod (d := 9) e4 (by omega) (by omega) (by omega))).trans (nI_add 1 _)
  have bn : 1 + j0 % 12 ≤ 12 := by omega
  have ba : j1 % 7 < 7 := by omega
  have bb : j2 % 7 < 7 := by omega
  have bu : 1 + j3 % 9 < 10 := by omega
  have bv : 1 + j4 % 9 < 10 := by omega
  refine ⟨by omega, by omega, 12, 110, by omega, by omega, ?_⟩
  refine ⟨by omega, by omega, by omega, by omega, by omega, by omega, by omega, by omega, by omega, by omega, by omega, by omega, by omega, by omega, by omega, by omega, by omega, by omega, by omega, by omega, by omega, by omega, by omega, by omega, ?_⟩
  refine ⟨by decide, nm_r en ⟨by decide, nm_r ea ⟨by decide, nm_r eb ⟨by decide, nm_r eu ⟨by decide, nm_r ev ?_⟩⟩⟩⟩⟩
  refine dk_bring0e (nI_add 5 _) (dk_packE _ _) (by omega) (by omega) ba bu (by omega) (fun _ _ => rfl) (fun b6 _ => ?_)
  refine dk_bring1e (nI_add 5 _) (dk_packE _ _) (by omega) (by omega) bb bv (by omega) (dk_z (fun _ _ => rfl)) (fun c6 _ => ?_)
  exact dk_124 HP bn (by omega) ba bb bu bv dk_W2 (dk_z (dk_z (fun _ _ => rfl))) dk_u2.1 dk_u2.2 dk_u2.1 dk_u2.2
theorem dk_cell {post : Int32 → Prop} {L k : Nat} {xs : Nat → Int32} (hL : L ≤ 3) (hk : k < 3) (H : ∀ r, post r) : wpL_cellAt post L xs () (nI k) :=
  pk_le L k (fun _ => H _) (fun z => ⟨pk_in k L z (hN := by omega), H _⟩)
theorem i_vc (xs : Nat → Int32) (L : Nat) (hL : L ≤ 3) : wpL_law (fun r => r = 1) L xs := by
  unfold wpL_law
  exact dk_cell (k := 0) hL (by omega) (fun x => dk_cell (k := 1) hL (by omega) (fun y => dk_cell (k := 2) hL (by omega) (fun z => ⟨13, 129, by omega, by omega, dk_lawOf rfl x y z⟩)))
end
