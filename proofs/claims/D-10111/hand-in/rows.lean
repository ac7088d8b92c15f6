section
/-- the sum of the first n gaps -/
def bq_sm (g : Nat → Nat) : Nat → Nat
  | 0 => 0
  | n + 1 => bq_sm g n + g n
theorem bq_sm_s (g : Nat → Nat) (n : Nat) : bq_sm g (n + 1) = bq_sm g n + g n := rfl
theorem bq_sm_eq {g g' : Nat → Nat} {n : Nat} (h : ∀ j, j < n → g' j = g j) : bq_sm g' n = bq_sm g n := by
  induction n with
  | zero => rfl
  | succ n ih => rw [bq_sm_s, bq_sm_s, ih (fun j hj => h j (by omega)), h n (by omega)]
theorem bq_sm_mono {g : Nat → Nat} {a n : Nat} (h : a ≤ n) : bq_sm g a ≤ bq_sm g n := by
  induction n with
  | zero => rw [show a = 0 by omega]; exact Nat.le_refl _
  | succ n ih =>
    by_cases e : a = n + 1
    · rw [e]; exact Nat.le_refl _
    · have := ih (by omega)
      rw [bq_sm_s]
      omega
theorem bq_sm_at {g : Nat → Nat} {a n : Nat} (h : a < n) : bq_sm g a + g a ≤ bq_sm g n := by
  have := bq_sm_mono (g := g) (show a + 1 ≤ n from h)
  rw [bq_sm_s] at this
  exact this
/-- the gaps when item i has been taken off -/
def bq_rg (g : Nat → Nat) (i : Nat) : Nat → Nat := fun j => if j < i then g j else if j = i then g i + g (i + 1) + 4 else g (j + 1)
theorem bq_rg_lt {g : Nat → Nat} {i j : Nat} (h : j < i) : bq_rg g i j = g j := if_pos h
theorem bq_rg_at {g : Nat → Nat} {i : Nat} : bq_rg g i i = g i + g (i + 1) + 4 := by
  unfold bq_rg
  rw [if_neg (Nat.lt_irrefl i), if_pos rfl]
theorem bq_rg_gt {g : Nat → Nat} {i j : Nat} (h : i < j) : bq_rg g i j = g (j + 1) := by
  unfold bq_rg
  rw [if_neg (by omega), if_neg (by omega)]
theorem bq_rg_lo {g : Nat → Nat} {i n : Nat} (h : n ≤ i) : bq_sm (bq_rg g i) n = bq_sm g n :=
  bq_sm_eq (fun j hj => bq_rg_lt (by omega))
theorem bq_rg_hi {g : Nat → Nat} {i n : Nat} (h : i < n) : bq_sm (bq_rg g i) n = bq_sm g (n + 1) + 4 := by
  induction n with
  | zero => omega
  | succ n ih =>
    by_cases e : i = n
    · rw [bq_sm_s, bq_rg_lo (by omega), e, bq_rg_at, bq_sm_s g (n + 1), bq_sm_s g n]
      omega
    · rw [bq_sm_s, ih (by omega), bq_rg_gt (by omega), bq_sm_s g (n + 1)]
      omega
/-- the gaps with one of them set -/
def bq_pt (g : Nat → Nat) (i x : Nat) : Nat → Nat := fun j => if j = i then x else g j
theorem bq_pt_at {g : Nat → Nat} {i x : Nat} : bq_pt g i x i = x := if_pos rfl
theorem bq_pt_ne {g : Nat → Nat} {i x j : Nat} (h : j ≠ i) : bq_pt g i x j = g j := if_neg h
theorem bq_pt_lo {g : Nat → Nat} {i x n : Nat} (h : n ≤ i) : bq_sm (bq_pt g i x) n = bq_sm g n :=
  bq_sm_eq (fun j hj => bq_pt_ne (by omega))
theorem bq_pt_hi {g : Nat → Nat} {i x n : Nat} (h : i < n) : bq_sm (bq_pt g i x) n + g i = bq_sm g n + x := by
  induction n with
  | zero => omega
  | succ n ih =>
    by_cases e : i = n
    · rw [bq_sm_s, bq_pt_lo (by omega), e, bq_pt_at, bq_sm_s g n]
      omega
    · have := ih (by omega)
      rw [bq_sm_s, bq_pt_ne (by omega), bq_sm_s g n]
      omega
theorem bq_sm_0 {g : Nat → Nat} {n : Nat} (h : ∀ j, j < n → g j = 0) : bq_sm g n = 0 := by
  induction n with
  | zero => rfl
  | succ n ih => rw [bq_sm_s, ih (fun j hj => h j (by omega)), h n (by omega)]
/-- where item i of belt b stands, the head at h -/
def bq_sl (b h i : Nat) : Nat := b * 16 + (h + i) % 16
theorem bq_sl_lt {b h i : Nat} (hb : b < 4) : bq_sl b h i < 64 := by
  unfold bq_sl
  omega
theorem bq_sl_ne {b c h k i j : Nat} (hbc : b ≠ c) : bq_sl b h i ≠ bq_sl c k j := by
  unfold bq_sl
  omega
theorem bq_sl_inj {b h i j : Nat} (hi : i < 16) (hj : j < 16) (hij : i ≠ j) : bq_sl b h i ≠ bq_sl b h j := by
  unfold bq_sl
  omega
theorem bq_sl_hd {b h j : Nat} : bq_sl b ((h + 1) % 16) j = bq_sl b h (j + 1) := by
  unfold bq_sl
  omega
theorem bq_slv {b h i : Nat} (hh : h + i < 2 ^ 32) : nI b * 16 + ((nI h + nI i) &&& 15) = nI (bq_sl b h i) := by
  rw [nI_add, pk_andN hh 4 (by decide), show (16 : Int32) = nI 16 from rfl, pk_mul, nI_add]
  rfl
theorem bq_cl {b : Nat} (hb : b < 4) : (nI b).toNatClampNeg = b := nI_clamp (by omega)
theorem bq_cls {b h i : Nat} (hb : b < 4) : (nI (bq_sl b h i)).toNatClampNeg = bq_sl b h i :=
  nI_clamp (Nat.lt_trans (bq_sl_lt hb) (by decide))
theorem bq_ins {b h i : Nat} (hb : b < 4) : vp_in (nI (bq_sl b h i)) 64 := pk_in _ 64 (bq_sl_lt hb)
/-- an arm that holds counts one -/
def bq_h (x : Int32) : Int32 := if x < 0 then 0 else 1
theorem bq_h_n {x : Int32} (h : x < 0) : bq_h x = 0 := if_pos h
theorem bq_h_p {x : Int32} (h : ¬ x < 0) : bq_h x = 1 := if_neg h
theorem bq_cnt {a : Nat → Int32} {b : Nat} {x : Int32} (hb : b < 4) : upd a b x 0 + upd a b x 1 + upd a b x 2 + upd a b x 3 + a b = a 0 + a 1 + a 2 + a 3 + x := by
  have e : b = 0 ∨ b = 1 ∨ b = 2 ∨ b = 3 := by omega
  rcases e with e | e | e | e <;> subst e <;> simp only [upd] <;> simp <;> grind
theorem bq_arm {a : Nat → Int32} {b : Nat} {x : Int32} (hb : b < 2) : bq_h (upd a b x 0) + bq_h (upd a b x 1) + bq_h (a b) = bq_h (a 0) + bq_h (a 1) + bq_h x := by
  have e : b = 0 ∨ b = 1 := by omega
  rcases e with e | e <;> subst e <;> simp only [upd] <;> simp <;> grind
end
section
/-- belt b: n items from head h on, their gaps g -/
def bq_B (len b : Nat) (a1 a2 a3 a5 : Nat → Int32) (h n : Nat) (g : Nat → Nat) : Prop :=
  h < 16 ∧ a1 b = nI h ∧ a2 b = nI n ∧ a5 b = nI (bq_sm g n) ∧ bq_sm g n + 4 * n ≤ len + 4 ∧ ∀ i, i < n → a3 (bq_sl b h i) = nI (g i)
/-- where a belt may lead -/
def bq_L (b : Nat) (x : Int32) : Prop := x = -2 ∨ x = -1 ∨ ∃ t, t < 4 ∧ t ≠ b ∧ x = nI t
/-- the invariant of one object -/
def bq_I (len : Nat) (u : St2) : Prop := match u with
  | (f, go, a1, a2, a3, a4, a5, a6, a7, a8, a9, a10, a11, a12) => f = nI len ∧ 8 ≤ len ∧ len ≤ 60 ∧ (∀ b, b < 4 → ∃ h n g, bq_B len b a1 a2 a3 a5 h n g) ∧ (∀ j, ¬ a4 j < 0) ∧ (∀ b, b < 4 → bq_L b (a6 b)) ∧ (∀ a, a < 2 → ∃ t, t < 4 ∧ a8 a = nI t) ∧ (∀ a, a < 2 → ∃ t, t < 4 ∧ a9 a = nI t)
/-- all that came in and was not taken: gone, held, on the belts -/
def bq_T (u : St2) : Int32 := match u with
  | (f, go, a1, a2, a3, a4, a5, a6, a7, a8, a9, a10, a11, a12) => go + (bq_h (a12 0) + bq_h (a12 1)) + (a2 0 + a2 1 + a2 2 + a2 3)
/-- room at the start of belt b -/
def bq_R (len b : Nat) (a2 a5 : Nat → Int32) : Prop := ∃ n s, a2 b = nI n ∧ a5 b = nI s ∧ n < 2 ^ 31 ∧ s < 2 ^ 31 ∧ s + 4 * n ≤ len
theorem bq_B_fr {len c : Nat} {a1 a2 a3 a5 a1' a2' a3' a5' : Nat → Int32} {h n : Nat} {g : Nat → Nat} (B : bq_B len c a1 a2 a3 a5 h n g)
    (e1 : a1' c = a1 c) (e2 : a2' c = a2 c) (e5 : a5' c = a5 c) (e3 : ∀ i, a3' (bq_sl c h i) = a3 (bq_sl c h i)) : bq_B len c a1' a2' a3' a5' h n g := by
  obtain ⟨b0, b1, b2, b3, b4, b5⟩ := B
  exact ⟨b0, e1.trans b1, e2.trans b2, e5.trans b3, b4, fun i hi => (e3 i).trans (b5 i hi)⟩
theorem bq_slot {f go : Int32} {a1 a2 a3 a4 a5 a6 a7 a8 a9 a10 a11 a12 : Nat → Int32} {b h i : Nat} {x0 x1 : Int32} {post : Int32 → Prop} (hb : b < 4) (h1 : a1 b = nI h) (hh : h < 16) (hi : i ≤ 64) (hp : post (nI (bq_sl b h i))) (e0 : x0 = nI b := by rfl) (e1 : x1 = nI i := by rfl) :
    wpX_slot post (f, go, a1, a2, a3, a4, a5, a6, a7, a8, a9, a10, a11, a12) x0 x1 := by
  subst e0
  subst e1
  refine And.intro (pk_in b 4 hb) ?_
  show post (nI b * 16 + ((a1 (nI b).toNatClampNeg + nI i) &&& 15))
  rw [bq_cl hb, h1, bq_slv (by omega)]
  exact hp
theorem bq_last {f go : Int32} {a1 a2 a3 a4 a5 a6 a7 a8 a9 a10 a11 a12 : Nat → Int32} {b n s : Nat} {post : Int32 → Prop} (hb : b < 4) (h2 : a2 b = nI n) (h5 : a5 b = nI s) (hn : 0 < n) (hp : post (nI (s + 4 * (n - 1)))) :
    wpX_lastPlace post (f, go, a1, a2, a3, a4, a5, a6, a7, a8, a9, a10, a11, a12) (nI b) := by
  refine And.intro (pk_in b 4 hb) (And.intro (pk_in b 4 hb) ?_)
  show post (a5 (nI b).toNatClampNeg + 4 * (a2 (nI b).toNatClampNeg - 1))
  rw [bq_cl hb, h2, h5, show (1 : Int32) = nI 1 from rfl, pk_sub (by omega), show (4 : Int32) = nI 4 from rfl, pk_mul, nI_add]
  exact hp
theorem bq_hasRoom {f go : Int32} {a1 a2 a3 a4 a5 a6 a7 a8 a9 a10 a11 a12 : Nat → Int32} {len b : Nat} (I : bq_I len (f, go, a1, a2, a3, a4, a5, a6, a7, a8, a9, a10, a11, a12)) (hb : b < 4) :
    ∃ r : Int32, (r = 0 ∨ r = 1 ∧ bq_R len b a2 a5) ∧ ∀ post : Int32 → Prop, post r → wpX_hasRoom post (f, go, a1, a2, a3, a4, a5, a6, a7, a8, a9, a10, a11, a12) (nI b) := by
  obtain ⟨hf, hl8, hl, IB, -⟩ := I
  obtain ⟨h, n, g, hh, h1, h2, h5, hs, -⟩ := IB b hb
  have e2 : a2 (nI b).toNatClampNeg = nI n := by rw [bq_cl hb]; exact h2
  have x : f - 4 = nI (len - 4) := by rw [hf]; exact pk_sub (a := len) (b := 4) (by omega)
  by_cases hn : n = 0
  · refine ⟨1, Or.inr ⟨rfl, n, bq_sm g n, h2, h5, by omega, by omega, ?_⟩, fun post hp => And.intro (pk_in b 4 hb) (pk_eq n 0 (fun _ => hp) (fun z => absurd hn z) e2 rfl)⟩
    subst hn
    show 0 + 4 * 0 ≤ len
    omega
  · by_cases hr : bq_sm g n + 4 * n ≤ len
    · refine ⟨1, Or.inr ⟨rfl, n, bq_sm g n, h2, h5, by omega, by omega, hr⟩, fun post hp => And.intro (pk_in b 4 hb) (pk_eq n 0 (fun z => absurd z hn) (fun _ => bq_last hb h2 h5 (by omega) ?_) e2 rfl)⟩
      exact pk_lt (len - 4) (bq_sm g n + 4 * (n - 1)) (fun z => absurd z (by omega)) (fun _ => hp) x rfl
    · refine ⟨0, Or.inl rfl, fun post hp => And.intro (pk_in b 4 hb) (pk_eq n 0 (fun z => absurd z hn) (fun _ => bq_last hb h2 h5 (by omega) ?_) e2 rfl)⟩
      exact pk_lt (len - 4) (bq_sm g n + 4 * (n - 1)) (fun _ => hp) (fun z => absurd z (by omega)) x rfl
theorem bq_append {f go : Int32} {a1 a2 a3 a4 a5 a6 a7 a8 a9 a10 a11 a12 : Nat → Int32} {len b : Nat} {k : Int32} (I : bq_I len (f, go, a1, a2, a3, a4, a5, a6, a7, a8, a9, a10, a11, a12)) (hb : b < 4) (hk : ¬ k < 0) (hr : bq_R len b a2 a5) :
    ∃ a2' a3' a4' a5' : Nat → Int32, bq_I len (f, go, a1, a2', a3', a4', a5', a6, a7, a8, a9, a10, a11, a12) ∧ bq_T (f, go, a1, a2', a3', a4', a5', a6, a7, a8, a9, a10, a11, a12) = bq_T (f, go, a1, a2, a3, a4, a5, a6, a7, a8, a9, a10, a11, a12) + 1 ∧ ¬ a2' b ≤ 0 ∧
      ∀ post : St2 → Prop, post (f, go, a1, a2', a3', a4', a5', a6, a7, a8, a9, a10, a11, a12) → wpX_append post (f, go, a1, a2, a3, a4, a5, a6, a7, a8, a9, a10, a11, a12) (nI b) k := by
  obtain ⟨hf, hl8, hl, IB, I4, I6, I8, I9⟩ := I
  obtain ⟨h, n, g, hh, h1, h2, h5, hs, h3⟩ := IB b hb
  obtain ⟨n', s', r2, r5, hn', hs', hr⟩ := hr
  have en : n' = n := (nI_eq hn' (by omega)).mp (r2.symm.trans h2)
  have es : s' = bq_sm g n := (nI_eq hs' (by omega)).mp (r5.symm.trans h5)
  rw [en, es] at hr
  have e2 : a2 (nI b).toNatClampNeg = nI n := by rw [bq_cl hb]; exact h2
  obtain ⟨o, ho⟩ : ∃ o, o + bq_sm g n + 4 * n = len := ⟨len - bq_sm g n - 4 * n, by omega⟩
  refine ⟨upd a2 b (nI (n + 1)), upd a3 (bq_sl b h n) (nI o), upd a4 (bq_sl b h n) k, upd a5 b (nI (bq_sm g n + o)), ⟨hf, hl8, hl, ?_, ?_, I6, I8, I9⟩, ?_, ?_, ?_⟩
  · intro c hc
    by_cases e : c = b
    · subst e
      have hs1 : bq_sm (bq_pt g n o) (n + 1) = bq_sm g n + o := by rw [bq_sm_s, bq_pt_lo (Nat.le_refl n), bq_pt_at]
      refine ⟨h, n + 1, bq_pt g n o, hh, h1, pk_us, ?_, ?_, fun i hi => ?_⟩
      · rw [hs1]; exact pk_us
      · rw [hs1]; omega
      · by_cases ei : i = n
        · rw [ei, pk_us, bq_pt_at]
        · rw [pk_un (bq_sl_inj (by omega) (by omega) ei), bq_pt_ne ei]
          exact h3 i (by omega)
    · obtain ⟨h', n', g', B⟩ := IB c hc
      exact ⟨h', n', g', bq_B_fr B rfl (pk_un e) (pk_un e) (fun i => pk_un (bq_sl_ne e))⟩
  · intro j
    by_cases e : j = bq_sl b h n
    · rw [e, pk_us]; exact hk
    · rw [pk_un e]; exact I4 j
  · have t := bq_cnt (a := a2) (x := nI (n + 1)) hb
    rw [h2, ← nI_1] at t
    show go + (bq_h (a12 0) + bq_h (a12 1)) + (upd a2 b (nI (n + 1)) 0 + upd a2 b (nI (n + 1)) 1 + upd a2 b (nI (n + 1)) 2 + upd a2 b (nI (n + 1)) 3) = go + (bq_h (a12 0) + bq_h (a12 1)) + (a2 0 + a2 1 + a2 2 + a2 3) + 1
    rw [← nI_1]
    grind
  · rw [pk_us]; exact nI_nle (by omega) (by omega)
  · intro post hp
    have core : wX_append_28 post (nI b) k (nI o) f go a1 a2 a3 a4 a5 a6 a7 a8 a9 a10 a11 a12 := by
      unfold wX_append_28
      refine ⟨pk_in b 4 hb, bq_slot hb h1 hh (i := n) (by omega) ?_ rfl e2⟩
      exact ⟨bq_ins hb, nm_r (by rw [bq_cls hb]) ⟨bq_ins hb, nm_r (by rw [bq_cls hb]) ⟨pk_in b 4 hb, pk_in b 4 hb, nm_r (by rw [bq_cl hb, h5, nI_add]) ⟨pk_in b 4 hb, pk_in b 4 hb, nm_r (by rw [bq_cl hb, h2, nI_1]) hp⟩⟩⟩⟩
    refine And.intro (pk_in b 4 hb) (pk_eq n 0 (fun z => ?_) (fun z => bq_last hb h2 h5 (by omega) ?_) e2 rfl)
    · have eo : f = nI o := by
        rw [hf, ← ho, z]
        rfl
      rw [eo] at core ⊢
      exact core
    · have eo : f - nI (bq_sm g n + 4 * (n - 1)) - 4 = nI o := by
        rw [hf, pk_sub (by omega), show (4 : Int32) = nI 4 from rfl, pk_sub (by omega)]
        exact congrArg nI (by omega)
      show wX_append_28 post (nI b) k (f - nI (bq_sm g n + 4 * (n - 1)) - 4) f go a1 a2 a3 a4 a5 a6 a7 a8 a9 a10 a11 a12
      rw [eo]
      exact core
theorem bq_closeUp {f go : Int32} {a1 a2 a5 a6 a7 a8 a9 a10 a11 a12 : Nat → Int32} {b h n : Nat} (hb : b < 4) (h1 : a1 b = nI h) (hh : h < 16) (h2 : a2 b = nI n) (hn : n ≤ 16) :
    ∀ (m k : Nat) (a3 a4 : Nat → Int32), k + 1 + m = n → ∃ a3' a4' : Nat → Int32, (∀ j, k ≤ j → j + 1 < n → a3' (bq_sl b h j) = a3 (bq_sl b h (j + 1))) ∧ (∀ x, (∀ j, k ≤ j → j + 1 < n → x ≠ bq_sl b h j) → a3' x = a3 x) ∧
      ((∀ x, ¬ a4 x < 0) → ∀ x, ¬ a4' x < 0) ∧ ∀ post : St2 → Prop, post (f, go, a1, a2, a3', a4', a5, a6, a7, a8, a9, a10, a11, a12) → ∃ fu, wX_closeUp_2 post (nI b) f go fu (nI k) a1 a2 a3 a4 a5 a6 a7 a8 a9 a10 a11 a12 := by
  have e2 : a2 (nI b).toNatClampNeg = nI n := by rw [bq_cl hb]; exact h2
  intro m
  induction m with
  | zero =>
    intro k a3 a4 hk
    exact ⟨a3, a4, fun j z1 z2 => absurd z2 (by omega), fun x _ => rfl, fun z => z, fun post hp => ⟨1, And.intro (pk_in b 4 hb) (pk_le n (k + 1) (fun _ => hp) (fun z => absurd z (by omega)) e2 (nI_1 k))⟩⟩
  | succ m ih =>
    intro k a3 a4 hk
    obtain ⟨a3', a4', A, B, C, D⟩ := ih (k + 1) (upd a3 (bq_sl b h k) (a3 (bq_sl b h (k + 1)))) (upd a4 (bq_sl b h k) (a4 (bq_sl b h (k + 1)))) (by omega)
    refine ⟨a3', a4', ?_, ?_, ?_, fun post hp => ?_⟩
    · intro j hj hjn
      by_cases e : j = k
      · rw [e, B _ (fun j' z1 z2 => bq_sl_inj (by omega) (by omega) (by omega)), pk_us]
      · rw [A j (by omega) hjn, pk_un (bq_sl_inj (by omega) (by omega) (by omega))]
    · intro x hx
      rw [B x (fun j z1 z2 => hx j (by omega) z2), pk_un (hx k (by omega) (by omega))]
    · intro h4
      refine C (fun x => ?_)
      by_cases e : x = bq_sl b h k
      · rw [e, pk_us]; exact h4 _
      · rw [pk_un e]; exact h4 x
    · obtain ⟨fu, hw⟩ := D post hp
      refine ⟨fu + 1, And.intro (pk_in b 4 hb) (pk_le n (k + 1) (fun z => absurd z (by omega)) (fun _ => bq_slot hb h1 hh (i := k) (by omega) (bq_slot hb h1 hh (i := k + 1) (by omega) ?_ rfl (nI_1 k))) e2 (nI_1 k))⟩
      exact ⟨bq_ins hb, bq_ins hb, nm_r (by rw [bq_cls hb, bq_cls hb]) ⟨bq_ins hb, bq_ins hb, nm_r (by rw [bq_cls hb, bq_cls hb]) (nm_r (nI_1 k) hw)⟩⟩
theorem bq_rm79 {f go : Int32} {a1 a2 a3 a4 a5 a6 a7 a8 a9 a10 a11 a12 : Nat → Int32} {b h n i : Nat} {k : Int32} (hb : b < 4) (h1 : a1 b = nI h) (hh : h < 16) (h2 : a2 b = nI n) (hn : n ≤ 16) (hi : i < n) (I4 : ∀ j, ¬ a4 j < 0) :
    ∃ (h' : Nat) (a1' a3' a4' : Nat → Int32), h' < 16 ∧ a1' b = nI h' ∧ (∀ c, c ≠ b → a1' c = a1 c) ∧ (∀ j, j < i → a3' (bq_sl b h' j) = a3 (bq_sl b h j)) ∧ (∀ j, i ≤ j → j + 1 < n → a3' (bq_sl b h' j) = a3 (bq_sl b h (j + 1))) ∧
      (∀ c k j, c ≠ b → a3' (bq_sl c k j) = a3 (bq_sl c k j)) ∧ (∀ j, ¬ a4' j < 0) ∧
      ∀ post : Int32 → St2 → Prop, post k (f, go, a1', upd a2 b (nI (n - 1)), a3', a4', a5, a6, a7, a8, a9, a10, a11, a12) → wX_removeItem_79 post (nI b) (nI i) k f go a1 a2 a3 a4 a5 a6 a7 a8 a9 a10 a11 a12 := by
  have em : nI n - 1 = nI (n - 1) := pk_sub (a := n) (b := 1) (by omega)
  by_cases hi0 : i = 0
  · refine ⟨(h + 1) % 16, upd a1 b (nI ((h + 1) % 16)), a3, a4, Nat.mod_lt _ (by omega), pk_us, fun c hc => pk_un hc, fun j hj => absurd hj (by omega), fun j _ _ => ?_, fun c k j _ => rfl, I4, fun post hp => ?_⟩
    · rw [bq_sl_hd]
    · unfold wX_removeItem_79
      refine pk_eq i 0 (fun _ => ⟨pk_in b 4 hb, pk_in b 4 hb, nm_r (e' := upd a1 b (nI ((h + 1) % 16))) ?_ ?_⟩) (fun z => absurd hi0 z)
      · rw [bq_cl hb, h1, nI_1, pk_andN (by omega) 4 (by decide)]
      · unfold wX_removeItem_109
        exact ⟨pk_in b 4 hb, pk_in b 4 hb, nm_r (by rw [bq_cl hb, h2, em]) hp⟩
  · obtain ⟨a3', a4', A, B, C, D⟩ := bq_closeUp (f := f) (go := go) (a5 := a5) (a6 := a6) (a7 := a7) (a8 := a8) (a9 := a9) (a10 := a10) (a11 := a11) (a12 := a12) hb h1 hh h2 hn (n - 1 - i) i a3 a4 (by omega)
    refine ⟨h, a1, a3', a4', hh, h1, fun _ _ => rfl, fun j hj => ?_, A, fun c k j hc => ?_, C I4, fun post hp => ?_⟩
    · exact B _ (fun j' z1 z2 => bq_sl_inj (by omega) (by omega) (by omega))
    · exact B _ (fun j' _ _ => bq_sl_ne hc)
    · unfold wX_removeItem_79
      refine pk_eq i 0 (fun z => absurd z hi0) (fun _ => D _ ?_)
      show wX_removeItem_109 post (nI b) k f go a1 a2 a3' a4' a5 a6 a7 a8 a9 a10 a11 a12
      unfold wX_removeItem_109
      exact ⟨pk_in b 4 hb, pk_in b 4 hb, nm_r (by rw [bq_cl hb, h2, em]) hp⟩
theorem bq_closeUp2 {f go : Int32} {a1 a2 a5 a6 a7 a8 a9 a10 a11 a12 : Nat → Int32} {b h n : Nat} (hb : b < 4) (h1 : a1 b = nI h) (hh : h < 16) (h2 : a2 b = nI n) (hn : n ≤ 16) :
    ∀ (m k : Nat) (a3 a4 : Nat → Int32), k + 1 + m = n → ∃ a3' a4' : Nat → Int32, (∀ j, k ≤ j → j + 1 < n → a3' (bq_sl b h j) = a3 (bq_sl b h (j + 1))) ∧ (∀ x, (∀ j, k ≤ j → j + 1 < n → x ≠ bq_sl b h j) → a3' x = a3 x) ∧
      ((∀ x, ¬ a4 x < 0) → ∀ x, ¬ a4' x < 0) ∧ ∀ post : St2 → Prop, post (f, go, a1, a2, a3', a4', a5, a6, a7, a8, a9, a10, a11, a12) → ∃ fu, wX_closeUp_2_2 post (nI b) f go fu (nI k) a1 a2 a3 a4 a5 a6 a7 a8 a9 a10 a11 a12 := by
  have e2 : a2 (nI b).toNatClampNeg = nI n := by rw [bq_cl hb]; exact h2
  intro m
  induction m with
  | zero =>
    intro k a3 a4 hk
    exact ⟨a3, a4, fun j z1 z2 => absurd z2 (by omega), fun x _ => rfl, fun z => z, fun post hp => ⟨1, And.intro (pk_in b 4 hb) (pk_le n (k + 1) (fun _ => hp) (fun z => absurd z (by omega)) e2 (nI_1 k))⟩⟩
  | succ m ih =>
    intro k a3 a4 hk
    obtain ⟨a3', a4', A, B, C, D⟩ := ih (k + 1) (upd a3 (bq_sl b h k) (a3 (bq_sl b h (k + 1)))) (upd a4 (bq_sl b h k) (a4 (bq_sl b h (k + 1)))) (by omega)
    refine ⟨a3', a4', ?_, ?_, ?_, fun post hp => ?_⟩
    · intro j hj hjn
      by_cases e : j = k
      · rw [e, B _ (fun j' z1 z2 => bq_sl_inj (by omega) (by omega) (by omega)), pk_us]
      · rw [A j (by omega) hjn, pk_un (bq_sl_inj (by omega) (by omega) (by omega))]
    · intro x hx
      rw [B x (fun j z1 z2 => hx j (by omega) z2), pk_un (hx k (by omega) (by omega))]
    · intro h4
      refine C (fun x => ?_)
      by_cases e : x = bq_sl b h k
      · rw [e, pk_us]; exact h4 _
      · rw [pk_un e]; exact h4 x
    · obtain ⟨fu, hw⟩ := D post hp
      refine ⟨fu + 1, And.intro (pk_in b 4 hb) (pk_le n (k + 1) (fun z => absurd z (by omega)) (fun _ => bq_slot hb h1 hh (i := k) (by omega) (bq_slot hb h1 hh (i := k + 1) (by omega) ?_ rfl (nI_1 k))) e2 (nI_1 k))⟩
      exact ⟨bq_ins hb, bq_ins hb, nm_r (by rw [bq_cls hb, bq_cls hb]) ⟨bq_ins hb, bq_ins hb, nm_r (by rw [bq_cls hb, bq_cls hb]) (nm_r (nI_1 k) hw)⟩⟩
theorem bq_rm279 {f go : Int32} {a1 a2 a3 a4 a5 a6 a7 a8 a9 a10 a11 a12 : Nat → Int32} {b h n i : Nat} {k : Int32} (hb : b < 4) (h1 : a1 b = nI h) (hh : h < 16) (h2 : a2 b = nI n) (hn : n ≤ 16) (hi : i < n) (I4 : ∀ j, ¬ a4 j < 0) :
    ∃ (h' : Nat) (a1' a3' a4' : Nat → Int32), h' < 16 ∧ a1' b = nI h' ∧ (∀ c, c ≠ b → a1' c = a1 c) ∧ (∀ j, j < i → a3' (bq_sl b h' j) = a3 (bq_sl b h j)) ∧ (∀ j, i ≤ j → j + 1 < n → a3' (bq_sl b h' j) = a3 (bq_sl b h (j + 1))) ∧
      (∀ c k j, c ≠ b → a3' (bq_sl c k j) = a3 (bq_sl c k j)) ∧ (∀ j, ¬ a4' j < 0) ∧
      ∀ post : Int32 → St2 → Prop, post k (f, go, a1', upd a2 b (nI (n - 1)), a3', a4', a5, a6, a7, a8, a9, a10, a11, a12) → wX_removeItem_2_79 post (nI b) (nI i) k f go a1 a2 a3 a4 a5 a6 a7 a8 a9 a10 a11 a12 := by
  have em : nI n - 1 = nI (n - 1) := pk_sub (a := n) (b := 1) (by omega)
  by_cases hi0 : i = 0
  · refine ⟨(h + 1) % 16, upd a1 b (nI ((h + 1) % 16)), a3, a4, Nat.mod_lt _ (by omega), pk_us, fun c hc => pk_un hc, fun j hj => absurd hj (by omega), fun j _ _ => ?_, fun c k j _ => rfl, I4, fun post hp => ?_⟩
    · rw [bq_sl_hd]
    · unfold wX_removeItem_2_79
      refine pk_eq i 0 (fun _ => ⟨pk_in b 4 hb, pk_in b 4 hb, nm_r (e' := upd a1 b (nI ((h + 1) % 16))) ?_ ?_⟩) (fun z => absurd hi0 z)
      · rw [bq_cl hb, h1, nI_1, pk_andN (by omega) 4 (by decide)]
      · unfold wX_removeItem_2_109
        exact ⟨pk_in b 4 hb, pk_in b 4 hb, nm_r (by rw [bq_cl hb, h2, em]) hp⟩
  · obtain ⟨a3', a4', A, B, C, D⟩ := bq_closeUp2 (f := f) (go := go) (a5 := a5) (a6 := a6) (a7 := a7) (a8 := a8) (a9 := a9) (a10 := a10) (a11 := a11) (a12 := a12) hb h1 hh h2 hn (n - 1 - i) i a3 a4 (by omega)
    refine ⟨h, a1, a3', a4', hh, h1, fun _ _ => rfl, fun j hj => ?_, A, fun c k j hc => ?_, C I4, fun post hp => ?_⟩
    · exact B _ (fun j' z1 z2 => bq_sl_inj (by omega) (by omega) (by omega))
    · exact B _ (fun j' _ _ => bq_sl_ne hc)
    · unfold wX_removeItem_2_79
      refine pk_eq i 0 (fun z => absurd z hi0) (fun _ => D _ ?_)
      show wX_removeItem_2_109 post (nI b) k f go a1 a2 a3' a4' a5 a6 a7 a8 a9 a10 a11 a12
      unfold wX_removeItem_2_109
      exact ⟨pk_in b 4 hb, pk_in b 4 hb, nm_r (by rw [bq_cl hb, h2, em]) hp⟩
theorem bq_rmfin {f go : Int32} {a1 a2 a3 a4 a5 a6 a7 a8 a9 a10 a11 a12 : Nat → Int32} {len b h h' n i s : Nat} {g : Nat → Nat} {a1' a3' a4' : Nat → Int32} (I : bq_I len (f, go, a1, a2, a3, a4, a5, a6, a7, a8, a9, a10, a11, a12)) (hb : b < 4) (B : bq_B len b a1 a2 a3 a5 h n g) (hi : i < n)
    (hh' : h' < 16) (h1' : a1' b = nI h') (fr1 : ∀ c, c ≠ b → a1' c = a1 c) (v3 : ∀ j, j + 1 < n → a3' (bq_sl b h' j) = nI (bq_rg g i j)) (fr3 : ∀ c k j, c ≠ b → a3' (bq_sl c k j) = a3 (bq_sl c k j))
    (p4 : ∀ j, ¬ a4' j < 0) (es : s = bq_sm (bq_rg g i) (n - 1)) (bd : s + 4 * (n - 1) ≤ len + 4) :
    bq_I len (f, go, a1', upd a2 b (nI (n - 1)), a3', a4', upd a5 b (nI s), a6, a7, a8, a9, a10, a11, a12) ∧ bq_T (f, go, a1', upd a2 b (nI (n - 1)), a3', a4', upd a5 b (nI s), a6, a7, a8, a9, a10, a11, a12) + 1 = bq_T (f, go, a1, a2, a3, a4, a5, a6, a7, a8, a9, a10, a11, a12) := by
  obtain ⟨hf, hl8, hl, IB, I4, I6, I8, I9⟩ := I
  refine ⟨⟨hf, hl8, hl, ?_, p4, I6, I8, I9⟩, ?_⟩
  · intro c hc
    by_cases e : c = b
    · subst e
      refine ⟨h', n - 1, bq_rg g i, hh', h1', pk_us, ?_, ?_, fun j hj => v3 j (by omega)⟩
      · rw [es]; exact pk_us
      · rw [← es]; exact bd
    · obtain ⟨k, m, g', B'⟩ := IB c hc
      exact ⟨k, m, g', bq_B_fr B' (fr1 c e) (pk_un e) (pk_un e) (fun j => fr3 c k j e)⟩
  · have t := bq_cnt (a := a2) (x := nI (n - 1)) hb
    have e : a2 b = nI (n - 1) + 1 := by rw [nI_1, B.2.2.1]; exact congrArg nI (by omega)
    rw [e] at t
    show go + (bq_h (a12 0) + bq_h (a12 1)) + (upd a2 b (nI (n - 1)) 0 + upd a2 b (nI (n - 1)) 1 + upd a2 b (nI (n - 1)) 2 + upd a2 b (nI (n - 1)) 3) + 1 = go + (bq_h (a12 0) + bq_h (a12 1)) + (a2 0 + a2 1 + a2 2 + a2 3)
    grind
end
section
theorem bq_remove {f go : Int32} {a1 a2 a3 a4 a5 a6 a7 a8 a9 a10 a11 a12 : Nat → Int32} {len b i n : Nat} (I : bq_I len (f, go, a1, a2, a3, a4, a5, a6, a7, a8, a9, a10, a11, a12)) (hb : b < 4) (hn : a2 b = nI n) (hnb : n < 2 ^ 31) (hi : i < n) :
    ∃ (r : Int32) (a1' a2' a3' a4' a5' : Nat → Int32), ¬ r < 0 ∧ bq_I len (f, go, a1', a2', a3', a4', a5', a6, a7, a8, a9, a10, a11, a12) ∧ bq_T (f, go, a1', a2', a3', a4', a5', a6, a7, a8, a9, a10, a11, a12) + 1 = bq_T (f, go, a1, a2, a3, a4, a5, a6, a7, a8, a9, a10, a11, a12) ∧ (∀ c, c ≠ b → a2' c = a2 c ∧ a5' c = a5 c) ∧
      ∀ post : Int32 → St2 → Prop, post r (f, go, a1', a2', a3', a4', a5', a6, a7, a8, a9, a10, a11, a12) → wpX_removeItem post (f, go, a1, a2, a3, a4, a5, a6, a7, a8, a9, a10, a11, a12) (nI b) (nI i) := by
  have I0 := I
  obtain ⟨hf, hl8, hl, IB, I4, I6, I8, I9⟩ := I
  obtain ⟨h, n', g, B⟩ := IB b hb
  have en : n = n' := (nI_eq hnb (by have := B.2.2.2.2.1; omega)).mp (hn.symm.trans B.2.2.1)
  subst en
  have B0 := B
  obtain ⟨hh, h1, h2, h5, hs, h3⟩ := B
  have e2 : a2 (nI b).toNatClampNeg = nI n := by rw [bq_cl hb]; exact h2
  have hat : a3 (bq_sl b h i) = nI (g i) := h3 i hi
  have hgi := bq_sm_at (g := g) hi
  by_cases hl1 : i + 1 < n
  · obtain ⟨h', a1', a3', a4', hh', h1', fr1, v3a, v3b, fr3, p4, D⟩ := bq_rm79 (f := f) (go := go) (a1 := a1) (a2 := a2) (a3 := upd a3 (bq_sl b h (i + 1)) (nI (g (i + 1) + (g i + 4)))) (a4 := a4) (a5 := upd a5 b (nI (bq_sm g n + 4))) (a6 := a6) (a7 := a7) (a8 := a8) (a9 := a9) (a10 := a10) (a11 := a11) (a12 := a12) (k := a4 (bq_sl b h i)) hb h1 hh h2 (by omega) hi I4
    have v3 : ∀ j, j + 1 < n → a3' (bq_sl b h' j) = nI (bq_rg g i j) := by
      intro j hj
      rcases Nat.lt_trichotomy j i with z | z | z
      · rw [v3a j z, pk_un (bq_sl_inj (by omega) (by omega) (by omega)), bq_rg_lt z]
        exact h3 j (by omega)
      · subst z
        rw [v3b j (Nat.le_refl j) hj, pk_us, bq_rg_at]
        exact congrArg nI (by omega)
      · rw [v3b j (by omega) hj, pk_un (bq_sl_inj (by omega) (by omega) (by omega)), bq_rg_gt z]
        exact h3 (j + 1) hj
    have es : bq_sm g n + 4 = bq_sm (bq_rg g i) (n - 1) := by
      rw [bq_rg_hi (by omega), show n - 1 + 1 = n by omega]
    have F := bq_rmfin (s := bq_sm g n + 4) I0 hb B0 hi hh' h1' fr1 v3 (fun c k j hc => (fr3 c k j hc).trans (pk_un (bq_sl_ne hc))) p4 es (by omega)
    refine ⟨a4 (bq_sl b h i), a1', upd a2 b (nI (n - 1)), a3', a4', upd a5 b (nI (bq_sm g n + 4)), I4 _, F.1, F.2, fun c hc => ⟨pk_un hc, pk_un hc⟩, fun post hp => ?_⟩
    unfold wpX_removeItem
    dsimp only
    refine bq_slot hb h1 hh (i := i) (by omega) ?_
    refine ⟨bq_ins hb, nm_r (e' := a4 (bq_sl b h i)) (by rw [bq_cls hb]) ⟨bq_ins hb, nm_r (e' := nI (g i)) (by rw [bq_cls hb, hat]) ⟨pk_in b 4 hb, pk_le n (i + 1) (fun z => absurd z (by omega)) (fun _ => bq_slot hb h1 hh (i := i + 1) (by omega) ?_ rfl (nI_1 i)) e2 (nI_1 i)⟩⟩⟩
    exact ⟨bq_ins hb, bq_ins hb, nm_r (by rw [bq_cls hb, h3 (i + 1) hl1, show (4 : Int32) = nI 4 from rfl, nI_add, nI_add]) ⟨pk_in b 4 hb, pk_in b 4 hb, nm_r (by rw [bq_cl hb, h5, show (4 : Int32) = nI 4 from rfl, nI_add]) (D post hp)⟩⟩
  · obtain ⟨h', a1', a3', a4', hh', h1', fr1, v3a, v3b, fr3, p4, D⟩ := bq_rm79 (f := f) (go := go) (a1 := a1) (a2 := a2) (a3 := a3) (a4 := a4) (a5 := upd a5 b (nI (bq_sm g n - g i))) (a6 := a6) (a7 := a7) (a8 := a8) (a9 := a9) (a10 := a10) (a11 := a11) (a12 := a12) (k := a4 (bq_sl b h i)) hb h1 hh h2 (by omega) hi I4
    have v3 : ∀ j, j + 1 < n → a3' (bq_sl b h' j) = nI (bq_rg g i j) := by
      intro j hj
      rw [v3a j (by omega), bq_rg_lt (by omega)]
      exact h3 j (by omega)
    have es : bq_sm g n - g i = bq_sm (bq_rg g i) (n - 1) := by
      rw [bq_rg_lo (by omega), show n = i + 1 by omega, bq_sm_s, show i + 1 - 1 = i by omega]
      omega
    have F := bq_rmfin (s := bq_sm g n - g i) I0 hb B0 hi hh' h1' fr1 v3 fr3 p4 es (by omega)
    refine ⟨a4 (bq_sl b h i), a1', upd a2 b (nI (n - 1)), a3', a4', upd a5 b (nI (bq_sm g n - g i)), I4 _, F.1, F.2, fun c hc => ⟨pk_un hc, pk_un hc⟩, fun post hp => ?_⟩
    unfold wpX_removeItem
    dsimp only
    refine bq_slot hb h1 hh (i := i) (by omega) ?_
    refine ⟨bq_ins hb, nm_r (e' := a4 (bq_sl b h i)) (by rw [bq_cls hb]) ⟨bq_ins hb, nm_r (e' := nI (g i)) (by rw [bq_cls hb, hat]) ⟨pk_in b 4 hb, pk_le n (i + 1) (fun _ => ?_) (fun z => absurd z (by omega)) e2 (nI_1 i)⟩⟩⟩
    exact ⟨pk_in b 4 hb, pk_in b 4 hb, nm_r (by rw [bq_cl hb, h5, pk_sub (by omega)]) (D post hp)⟩
theorem bq_remove2 {f go : Int32} {a1 a2 a3 a4 a5 a6 a7 a8 a9 a10 a11 a12 : Nat → Int32} {len b i n : Nat} (I : bq_I len (f, go, a1, a2, a3, a4, a5, a6, a7, a8, a9, a10, a11, a12)) (hb : b < 4) (hn : a2 b = nI n) (hnb : n < 2 ^ 31) (hi : i < n) :
    ∃ (r : Int32) (a1' a2' a3' a4' a5' : Nat → Int32), ¬ r < 0 ∧ bq_I len (f, go, a1', a2', a3', a4', a5', a6, a7, a8, a9, a10, a11, a12) ∧ bq_T (f, go, a1', a2', a3', a4', a5', a6, a7, a8, a9, a10, a11, a12) + 1 = bq_T (f, go, a1, a2, a3, a4, a5, a6, a7, a8, a9, a10, a11, a12) ∧ (∀ c, c ≠ b → a2' c = a2 c ∧ a5' c = a5 c) ∧
      ∀ post : Int32 → St2 → Prop, post r (f, go, a1', a2', a3', a4', a5', a6, a7, a8, a9, a10, a11, a12) → wpX_removeItem_2 post (f, go, a1, a2, a3, a4, a5, a6, a7, a8, a9, a10, a11, a12) (nI b) (nI i) := by
  have I0 := I
  obtain ⟨hf, hl8, hl, IB, I4, I6, I8, I9⟩ := I
  obtain ⟨h, n', g, B⟩ := IB b hb
  have en : n = n' := (nI_eq hnb (by have := B.2.2.2.2.1; omega)).mp (hn.symm.trans B.2.2.1)
  subst en
  have B0 := B
  obtain ⟨hh, h1, h2, h5, hs, h3⟩ := B
  have e2 : a2 (nI b).toNatClampNeg = nI n := by rw [bq_cl hb]; exact h2
  have hat : a3 (bq_sl b h i) = nI (g i) := h3 i hi
  have hgi := bq_sm_at (g := g) hi
  by_cases hl1 : i + 1 < n
  · obtain ⟨h', a1', a3', a4', hh', h1', fr1, v3a, v3b, fr3, p4, D⟩ := bq_rm279 (f := f) (go := go) (a1 := a1) (a2 := a2) (a3 := upd a3 (bq_sl b h (i + 1)) (nI (g (i + 1) + (g i + 4)))) (a4 := a4) (a5 := upd a5 b (nI (bq_sm g n + 4))) (a6 := a6) (a7 := a7) (a8 := a8) (a9 := a9) (a10 := a10) (a11 := a11) (a12 := a12) (k := a4 (bq_sl b h i)) hb h1 hh h2 (by omega) hi I4
    have v3 : ∀ j, j + 1 < n → a3' (bq_sl b h' j) = nI (bq_rg g i j) := by
      intro j hj
      rcases Nat.lt_trichotomy j i with z | z | z
      · rw [v3a j z, pk_un (bq_sl_inj (by omega) (by omega) (by omega)), bq_rg_lt z]
        exact h3 j (by omega)
      · subst z
        rw [v3b j (Nat.le_refl j) hj, pk_us, bq_rg_at]
        exact congrArg nI (by omega)
      · rw [v3b j (by omega) hj, pk_un (bq_sl_inj (by omega) (by omega) (by omega)), bq_rg_gt z]
        exact h3 (j + 1) hj
    have es : bq_sm g n + 4 = bq_sm (bq_rg g i) (n - 1) := by
      rw [bq_rg_hi (by omega), show n - 1 + 1 = n by omega]
    have F := bq_rmfin (s := bq_sm g n + 4) I0 hb B0 hi hh' h1' fr1 v3 (fun c k j hc => (fr3 c k j hc).trans (pk_un (bq_sl_ne hc))) p4 es (by omega)
    refine ⟨a4 (bq_sl b h i), a1', upd a2 b (nI (n - 1)), a3', a4', upd a5 b (nI (bq_sm g n + 4)), I4 _, F.1, F.2, fun c hc => ⟨pk_un hc, pk_un hc⟩, fun post hp => ?_⟩
    unfold wpX_removeItem_2
    dsimp only
    refine bq_slot hb h1 hh (i := i) (by omega) ?_
    refine ⟨bq_ins hb, nm_r (e' := a4 (bq_sl b h i)) (by rw [bq_cls hb]) ⟨bq_ins hb, nm_r (e' := nI (g i)) (by rw [bq_cls hb, hat]) ⟨pk_in b 4 hb, pk_le n (i + 1) (fun z => absurd z (by omega)) (fun _ => bq_slot hb h1 hh (i := i + 1) (by omega) ?_ rfl (nI_1 i)) e2 (nI_1 i)⟩⟩⟩
    exact ⟨bq_ins hb, bq_ins hb, nm_r (by rw [bq_cls hb, h3 (i + 1) hl1, show (4 : Int32) = nI 4 from rfl, nI_add, nI_add]) ⟨pk_in b 4 hb, pk_in b 4 hb, nm_r (by rw [bq_cl hb, h5, show (4 : Int32) = nI 4 from rfl, nI_add]) (D post hp)⟩⟩
  · obtain ⟨h', a1', a3', a4', hh', h1', fr1, v3a, v3b, fr3, p4, D⟩ := bq_rm279 (f := f) (go := go) (a1 := a1) (a2 := a2) (a3 := a3) (a4 := a4) (a5 := upd a5 b (nI (bq_sm g n - g i))) (a6 := a6) (a7 := a7) (a8 := a8) (a9 := a9) (a10 := a10) (a11 := a11) (a12 := a12) (k := a4 (bq_sl b h i)) hb h1 hh h2 (by omega) hi I4
    have v3 : ∀ j, j + 1 < n → a3' (bq_sl b h' j) = nI (bq_rg g i j) := by
      intro j hj
      rw [v3a j (by omega), bq_rg_lt (by omega)]
      exact h3 j (by omega)
    have es : bq_sm g n - g i = bq_sm (bq_rg g i) (n - 1) := by
      rw [bq_rg_lo (by omega), show n = i + 1 by omega, bq_sm_s, show i + 1 - 1 = i by omega]
      omega
    have F := bq_rmfin (s := bq_sm g n - g i) I0 hb B0 hi hh' h1' fr1 v3 fr3 p4 es (by omega)
    refine ⟨a4 (bq_sl b h i), a1', upd a2 b (nI (n - 1)), a3', a4', upd a5 b (nI (bq_sm g n - g i)), I4 _, F.1, F.2, fun c hc => ⟨pk_un hc, pk_un hc⟩, fun post hp => ?_⟩
    unfold wpX_removeItem_2
    dsimp only
    refine bq_slot hb h1 hh (i := i) (by omega) ?_
    refine ⟨bq_ins hb, nm_r (e' := a4 (bq_sl b h i)) (by rw [bq_cls hb]) ⟨bq_ins hb, nm_r (e' := nI (g i)) (by rw [bq_cls hb, hat]) ⟨pk_in b 4 hb, pk_le n (i + 1) (fun _ => ?_) (fun z => absurd z (by omega)) e2 (nI_1 i)⟩⟩⟩
    exact ⟨pk_in b 4 hb, pk_in b 4 hb, nm_r (by rw [bq_cl hb, h5, pk_sub (by omega)]) (D post hp)⟩
theorem bq_atEnd {f go : Int32} {a1 a2 a3 a4 a5 a6 a7 a8 a9 a10 a11 a12 : Nat → Int32} {len b : Nat} (I : bq_I len (f, go, a1, a2, a3, a4, a5, a6, a7, a8, a9, a10, a11, a12)) (hb : b < 4) :
    ∃ r : Int32, (r = 0 ∨ ¬ r = 0 ∧ ∃ n, a2 b = nI n ∧ n < 2 ^ 31 ∧ 0 < n) ∧ ∀ post : Int32 → Prop, post r → wpX_atEnd post (f, go, a1, a2, a3, a4, a5, a6, a7, a8, a9, a10, a11, a12) (nI b) := by
  obtain ⟨hf, hl8, hl, IB, -⟩ := I
  obtain ⟨h, n, g, hh, h1, h2, h5, hs, h3⟩ := IB b hb
  have e2 : a2 (nI b).toNatClampNeg = nI n := by rw [bq_cl hb]; exact h2
  by_cases hn : n = 0
  · exact ⟨0, Or.inl rfl, fun post hp => And.intro (pk_in b 4 hb) (pk_le n 0 (fun _ => hp) (fun z => absurd z (by omega)) e2 rfl)⟩
  · have hg := bq_sm_at (g := g) (show 0 < n by omega)
    have e3 : a3 (nI (bq_sl b h 0)).toNatClampNeg = nI (g 0) := by rw [bq_cls hb]; exact h3 0 (by omega)
    by_cases h0 : g 0 = 0
    · exact ⟨1, Or.inr ⟨by decide, n, h2, by omega, by omega⟩, fun post hp => And.intro (pk_in b 4 hb) (pk_le n 0 (fun z => absurd z (by omega)) (fun _ => bq_slot hb h1 hh (i := 0) (by omega) ⟨bq_ins hb, pk_eq (g 0) 0 (fun _ => hp) (fun z => absurd h0 z) e3 rfl⟩) e2 rfl)⟩
    · exact ⟨0, Or.inl rfl, fun post hp => And.intro (pk_in b 4 hb) (pk_le n 0 (fun z => absurd z (by omega)) (fun _ => bq_slot hb h1 hh (i := 0) (by omega) ⟨bq_ins hb, pk_eq (g 0) 0 (fun z => absurd z h0) (fun _ => hp) e3 rfl⟩) e2 rfl)⟩
theorem bq_fo {f go : Int32} {a1 a2 a3 a4 a5 a6 a7 a8 a9 a10 a11 a12 : Nat → Int32} {b h n : Nat} {g : Nat → Nat} (hb : b < 4) (h1 : a1 b = nI h) (hh : h < 16) (h2 : a2 b = nI n) (hn : n ≤ 16) (h3 : ∀ i, i < n → a3 (bq_sl b h i) = nI (g i)) (hg : ∀ i, i < n → g i < 2 ^ 31) :
    ∀ m k : Nat, k + m = n → ∃ r, k ≤ r ∧ r ≤ n ∧ (∀ j, k ≤ j → j < r → g j = 0) ∧ (r < n → g r ≠ 0) ∧ ∀ post : Int32 → Prop, post (nI r) → ∃ fu, wX_firstOpen_2 post (nI b) f go a1 a2 a3 a4 a5 a6 a7 a8 a9 a10 a11 a12 fu (nI k) := by
  have e2 : a2 (nI b).toNatClampNeg = nI n := by rw [bq_cl hb]; exact h2
  intro m
  induction m with
  | zero =>
    intro k hk
    exact ⟨k, Nat.le_refl k, by omega, fun j z1 z2 => absurd z2 (by omega), fun z => absurd z (by omega), fun post hp => ⟨1, And.intro (pk_in b 4 hb) (pk_le n k (fun _ => hp) (fun z => absurd z (by omega)) e2 rfl)⟩⟩
  | succ m ih =>
    intro k hk
    have e3 : a3 (nI (bq_sl b h k)).toNatClampNeg = nI (g k) := by rw [bq_cls hb]; exact h3 k (by omega)
    have hgk := hg k (by omega)
    by_cases h0 : g k = 0
    · obtain ⟨r, r1, r2, r3, r4, D⟩ := ih (k + 1) (by omega)
      refine ⟨r, by omega, r2, fun j z1 z2 => ?_, r4, fun post hp => ?_⟩
      · by_cases e : j = k
        · rw [e]; exact h0
        · exact r3 j (by omega) z2
      · obtain ⟨fu, hw⟩ := D post hp
        exact ⟨fu + 1, And.intro (pk_in b 4 hb) (pk_le n k (fun z => absurd z (by omega)) (fun _ => bq_slot hb h1 hh (i := k) (by omega) ⟨bq_ins hb, pk_eq (g k) 0 (fun _ => nm_r (nI_1 k) hw) (fun z => absurd h0 z) e3 rfl⟩) e2 rfl)⟩
    · exact ⟨k, Nat.le_refl k, by omega, fun j z1 z2 => absurd z2 (by omega), fun _ => h0, fun post hp => ⟨1, And.intro (pk_in b 4 hb) (pk_le n k (fun z => absurd z (by omega)) (fun _ => bq_slot hb h1 hh (i := k) (by omega) ⟨bq_ins hb, pk_eq (g k) 0 (fun z => absurd z h0) (fun _ => hp) e3 rfl⟩) e2 rfl)⟩⟩
theorem bq_firstOpen {f go : Int32} {a1 a2 a3 a4 a5 a6 a7 a8 a9 a10 a11 a12 : Nat → Int32} {len b h n : Nat} {g : Nat → Nat} (hl : len ≤ 60) (hb : b < 4) (B : bq_B len b a1 a2 a3 a5 h n g) :
    ∃ r, r ≤ n ∧ (∀ j, j < r → g j = 0) ∧ (r < n → g r ≠ 0) ∧ ∀ post : Int32 → Prop, post (nI r) → wpX_firstOpen post (f, go, a1, a2, a3, a4, a5, a6, a7, a8, a9, a10, a11, a12) (nI b) := by
  obtain ⟨hh, h1, h2, h5, hs, h3⟩ := B
  obtain ⟨r, -, r2, r3, r4, D⟩ := bq_fo (f := f) (go := go) (a4 := a4) (a5 := a5) (a6 := a6) (a7 := a7) (a8 := a8) (a9 := a9) (a10 := a10) (a11 := a11) (a12 := a12) hb h1 hh h2 (by omega) h3 (fun i hi => by have := bq_sm_at (g := g) hi; omega) n 0 (by omega)
  exact ⟨r, r2, fun j hj => r3 j (by omega) hj, r4, fun post hp => D post hp⟩
theorem bq_advance {f go : Int32} {a1 a2 a3 a4 a5 a6 a7 a8 a9 a10 a11 a12 : Nat → Int32} {len b : Nat} (I : bq_I len (f, go, a1, a2, a3, a4, a5, a6, a7, a8, a9, a10, a11, a12)) (hb : b < 4) :
    ∃ u' : St2, bq_I len u' ∧ bq_T u' = bq_T (f, go, a1, a2, a3, a4, a5, a6, a7, a8, a9, a10, a11, a12) ∧ ∀ post : St2 → Prop, post u' → wpX_advance post (f, go, a1, a2, a3, a4, a5, a6, a7, a8, a9, a10, a11, a12) (nI b) := by
  have I0 := I
  obtain ⟨hf, hl8, hl, IB, I4, I6, I8, I9⟩ := I
  obtain ⟨h, n, g, B⟩ := IB b hb
  obtain ⟨r, r2, r3, r4, D⟩ := bq_firstOpen (f := f) (go := go) (a4 := a4) (a6 := a6) (a7 := a7) (a8 := a8) (a9 := a9) (a10 := a10) (a11 := a11) (a12 := a12) hl hb B
  obtain ⟨hh, h1, h2, h5, hs, h3⟩ := B
  have e2 : a2 (nI b).toNatClampNeg = nI n := by rw [bq_cl hb]; exact h2
  by_cases hr : r = n
  · refine ⟨(f, go, a1, a2, a3, a4, a5, a6, a7, a8, a9, a10, a11, a12), I0, rfl, fun post hp => ?_⟩
    unfold wpX_advance
    dsimp only
    exact D _ ⟨pk_in b 4 hb, pk_eq r n (fun _ => hp) (fun z => absurd hr z) rfl e2⟩
  · have hrn : r < n := by omega
    have hgr := r4 hrn
    have hga := bq_sm_at (g := g) hrn
    have hps := bq_pt_hi (g := g) (x := g r - 1) hrn
    refine ⟨(f, go, a1, a2, upd a3 (bq_sl b h r) (nI (g r - 1)), a4, upd a5 b (nI (bq_sm g n - 1)), a6, a7, a8, a9, a10, a11, a12), ⟨hf, hl8, hl, ?_, I4, I6, I8, I9⟩, rfl, fun post hp => ?_⟩
    · intro c hc
      by_cases e : c = b
      · subst e
        refine ⟨h, n, bq_pt g r (g r - 1), hh, h1, h2, ?_, by omega, fun i hi => ?_⟩
        · rw [pk_us]; exact congrArg nI (by omega)
        · by_cases ei : i = r
          · rw [ei, pk_us, bq_pt_at]
          · rw [pk_un (bq_sl_inj (by omega) (by omega) ei), bq_pt_ne ei]
            exact h3 i hi
      · obtain ⟨h', n', g', B'⟩ := IB c hc
        exact ⟨h', n', g', bq_B_fr B' rfl rfl (pk_un e) (fun i => pk_un (bq_sl_ne e))⟩
    · unfold wpX_advance
      dsimp only
      refine D _ ⟨pk_in b 4 hb, pk_eq r n (fun z => absurd z hr) (fun _ => bq_slot hb h1 hh (i := r) (by omega) ?_) rfl e2⟩
      exact ⟨bq_ins hb, bq_ins hb, nm_r (by rw [bq_cls hb, h3 r hrn, show (1 : Int32) = nI 1 from rfl, pk_sub (by omega)]) ⟨pk_in b 4 hb, pk_in b 4 hb, nm_r (by rw [bq_cl hb, h5, show (1 : Int32) = nI 1 from rfl, pk_sub (by omega)]) hp⟩⟩
end
section
theorem bq_I12 {f go : Int32} {a1 a2 a3 a4 a5 a6 a7 a8 a9 a10 a11 a12 : Nat → Int32} {len : Nat} (x : Nat → Int32) (I : bq_I len (f, go, a1, a2, a3, a4, a5, a6, a7, a8, a9, a10, a11, a12)) : bq_I len (f, go, a1, a2, a3, a4, a5, a6, a7, a8, a9, a10, a11, x) := by
  obtain ⟨hf, hl8, hl, IB, I4, I6, I8, I9⟩ := I
  exact ⟨hf, hl8, hl, IB, I4, I6, I8, I9⟩
theorem bq_Igo {f go : Int32} {a1 a2 a3 a4 a5 a6 a7 a8 a9 a10 a11 a12 : Nat → Int32} {len : Nat} (x : Int32) (I : bq_I len (f, go, a1, a2, a3, a4, a5, a6, a7, a8, a9, a10, a11, a12)) : bq_I len (f, x, a1, a2, a3, a4, a5, a6, a7, a8, a9, a10, a11, a12) := by
  obtain ⟨hf, hl8, hl, IB, I4, I6, I8, I9⟩ := I
  exact ⟨hf, hl8, hl, IB, I4, I6, I8, I9⟩
theorem bq_passOn {f go : Int32} {a1 a2 a3 a4 a5 a6 a7 a8 a9 a10 a11 a12 : Nat → Int32} {len b : Nat} (I : bq_I len (f, go, a1, a2, a3, a4, a5, a6, a7, a8, a9, a10, a11, a12)) (hb : b < 4) :
    ∃ u' : St2, bq_I len u' ∧ bq_T u' = bq_T (f, go, a1, a2, a3, a4, a5, a6, a7, a8, a9, a10, a11, a12) ∧ ∀ post : St2 → Prop, post u' → wpX_passOn post (f, go, a1, a2, a3, a4, a5, a6, a7, a8, a9, a10, a11, a12) (nI b) := by
  have I0 := I
  obtain ⟨hf, hl8, hl, IB, I4, I6, I8, I9⟩ := I
  obtain ⟨r, hr, D⟩ := bq_atEnd I0 hb
  rcases hr with hr | ⟨hr, n, h2, hn31, hn0⟩
  · refine ⟨(f, go, a1, a2, a3, a4, a5, a6, a7, a8, a9, a10, a11, a12), I0, rfl, fun post hp => ?_⟩
    unfold wpX_passOn
    dsimp only
    exact D _ (br_t hr hp)
  · obtain ⟨k, a1', a2', a3', a4', a5', hk, I1, T1, fr, D1⟩ := bq_remove2 I0 hb h2 hn31 hn0
    have c6 : a6 (nI b).toNatClampNeg = a6 b := by rw [bq_cl hb]
    rcases I6 b hb with h6 | h6 | ⟨t, ht, htb, h6⟩
    · refine ⟨(f, go + 1, a1', a2', a3', a4', a5', a6, a7, a8, a9, a10, a11, a12), bq_Igo _ I1, ?_, fun post hp => ?_⟩
      · rw [← T1]
        show go + 1 + (bq_h (a12 0) + bq_h (a12 1)) + (a2' 0 + a2' 1 + a2' 2 + a2' 3) = go + (bq_h (a12 0) + bq_h (a12 1)) + (a2' 0 + a2' 1 + a2' 2 + a2' 3) + 1
        grind
      · unfold wpX_passOn
        dsimp only
        exact D _ (br_f hr ⟨pk_in b 4 hb, nm_r (c6.trans h6) (br_t rfl (D1 _ (nm_e hp)))⟩)
    · refine ⟨(f, go, a1, a2, a3, a4, a5, a6, a7, a8, a9, a10, a11, a12), I0, rfl, fun post hp => ?_⟩
      unfold wpX_passOn
      dsimp only
      exact D _ (br_f hr ⟨pk_in b 4 hb, nm_r (c6.trans h6) (br_f (by decide) (br_t (by decide) hp))⟩)
    · have hm2 : ¬ nI t = -2 := fun z => absurd (show nI t < 0 from by rw [z]; decide) (nI_pos (by omega))
      obtain ⟨q, hq, D2⟩ := bq_hasRoom I0 ht
      rcases hq with hq | ⟨hq, R⟩
      · refine ⟨(f, go, a1, a2, a3, a4, a5, a6, a7, a8, a9, a10, a11, a12), I0, rfl, fun post hp => ?_⟩
        unfold wpX_passOn
        dsimp only
        exact D _ (br_f hr ⟨pk_in b 4 hb, nm_r (c6.trans h6) (br_f hm2 (br_f (nI_pos (by omega)) (D2 _ (br_t hq hp))))⟩)
      · have R' : bq_R len t a2' a5' := by
          obtain ⟨x, y, z1, z2, z3⟩ := R
          exact ⟨x, y, (fr t htb).1.trans z1, (fr t htb).2.trans z2, z3⟩
        obtain ⟨a2'', a3'', a4'', a5'', I2, T2, -, D3⟩ := bq_append I1 ht hk R'
        refine ⟨(f, go, a1', a2'', a3'', a4'', a5'', a6, a7, a8, a9, a10, a11, a12), I2, by rw [T2, T1], fun post hp => ?_⟩
        unfold wpX_passOn
        dsimp only
        exact D _ (br_f hr ⟨pk_in b 4 hb, nm_r (c6.trans h6) (br_f hm2 (br_f (nI_pos (by omega)) (D2 _ (br_f (by rw [hq]; decide) (D1 _ (D3 _ hp))))))⟩)
theorem bq_wr {f go : Int32} {a1 a2 a3 a4 a5 a6 a7 a8 a9 a10 a11 a12 : Nat → Int32} {a b h n : Nat} (ha : a < 2) (hb : b < 4) (h1 : a1 b = nI h) (hh : h < 16) (h2 : a2 b = nI n) (hn : n ≤ 16) :
    ∀ (m k : Nat) (x3 : Int32), k + m = n → ∃ r : Int32, (r = -1 ∨ ∃ i, i < n ∧ r = nI i) ∧ ∀ post : Int32 → Prop, post r → ∃ fu, wX_withinReach_13 post (nI a) (nI b) f go a1 a2 a3 a4 a5 a6 a7 a8 a9 a10 a11 a12 fu x3 (nI k) := by
  have e2 : a2 (nI b).toNatClampNeg = nI n := by rw [bq_cl hb]; exact h2
  intro m
  induction m with
  | zero =>
    intro k x3 hk
    exact ⟨-1, Or.inl rfl, fun post hp => ⟨1, And.intro (pk_in b 4 hb) (pk_le n k (fun _ => hp) (fun z => absurd z (by omega)) e2 rfl)⟩⟩
  | succ m ih =>
    intro k x3 hk
    obtain ⟨r, r1, D⟩ := ih (k + 1) (x3 + (a3 (nI (bq_sl b h k)).toNatClampNeg + 4)) (by omega)
    by_cases c0 : ((a11 (nI a).toNatClampNeg >>> (a4 (nI (bq_sl b h k)).toNatClampNeg &&& 31)) &&& 1) = 1
    · by_cases c1 : x3 + (a3 (nI (bq_sl b h k)).toNatClampNeg + 4) < a10 (nI a).toNatClampNeg
      · refine ⟨r, r1, fun post hp => ?_⟩
        obtain ⟨fu, hw⟩ := D post hp
        refine ⟨fu + 1, And.intro (pk_in b 4 hb) (pk_le n k (fun z => absurd z (by omega)) (fun _ => bq_slot hb h1 hh (i := k) (by omega) ⟨bq_ins hb, nm_e ⟨pk_in a 2 ha, bq_ins hb, br_t c0 ?_⟩⟩) e2 rfl)⟩
        unfold wX_withinReach_70
        exact br_f (by decide) ⟨pk_in a 2 ha, br_t c1 (nm_r (nI_1 k) hw)⟩
      · by_cases c2 : a10 (nI a).toNatClampNeg + 3 < x3 + (a3 (nI (bq_sl b h k)).toNatClampNeg + 4)
        · refine ⟨r, r1, fun post hp => ?_⟩
          obtain ⟨fu, hw⟩ := D post hp
          refine ⟨fu + 1, And.intro (pk_in b 4 hb) (pk_le n k (fun z => absurd z (by omega)) (fun _ => bq_slot hb h1 hh (i := k) (by omega) ⟨bq_ins hb, nm_e ⟨pk_in a 2 ha, bq_ins hb, br_t c0 ?_⟩⟩) e2 rfl)⟩
          unfold wX_withinReach_70
          exact br_f (by decide) ⟨pk_in a 2 ha, br_f c1 ⟨pk_in a 2 ha, br_t c2 (nm_r (nI_1 k) hw)⟩⟩
        · refine ⟨nI k, Or.inr ⟨k, by omega, rfl⟩, fun post hp => ⟨1, And.intro (pk_in b 4 hb) (pk_le n k (fun z => absurd z (by omega)) (fun _ => bq_slot hb h1 hh (i := k) (by omega) ⟨bq_ins hb, nm_e ⟨pk_in a 2 ha, bq_ins hb, br_t c0 ?_⟩⟩) e2 rfl)⟩⟩
          unfold wX_withinReach_70
          exact br_f (by decide) ⟨pk_in a 2 ha, br_f c1 ⟨pk_in a 2 ha, br_f c2 hp⟩⟩
    · refine ⟨r, r1, fun post hp => ?_⟩
      obtain ⟨fu, hw⟩ := D post hp
      refine ⟨fu + 1, And.intro (pk_in b 4 hb) (pk_le n k (fun z => absurd z (by omega)) (fun _ => bq_slot hb h1 hh (i := k) (by omega) ⟨bq_ins hb, nm_e ⟨pk_in a 2 ha, bq_ins hb, br_f c0 ?_⟩⟩) e2 rfl)⟩
      unfold wX_withinReach_70
      exact br_t rfl (nm_r (nI_1 k) hw)
theorem bq_moveArm {f go : Int32} {a1 a2 a3 a4 a5 a6 a7 a8 a9 a10 a11 a12 : Nat → Int32} {len a : Nat} (I : bq_I len (f, go, a1, a2, a3, a4, a5, a6, a7, a8, a9, a10, a11, a12)) (ha : a < 2) :
    ∃ u' : St2, bq_I len u' ∧ bq_T u' = bq_T (f, go, a1, a2, a3, a4, a5, a6, a7, a8, a9, a10, a11, a12) ∧ ∀ post : St2 → Prop, post u' → wpX_moveArm post (f, go, a1, a2, a3, a4, a5, a6, a7, a8, a9, a10, a11, a12) (nI a) := by
  have I0 := I
  obtain ⟨hf, hl8, hl, IB, I4, I6, I8, I9⟩ := I
  have ca : (nI a).toNatClampNeg = a := nI_clamp (by omega)
  obtain ⟨b, hb, h8⟩ := I8 a ha
  obtain ⟨c, hc, h9⟩ := I9 a ha
  have c8 : a8 (nI a).toNatClampNeg = nI b := by rw [ca]; exact h8
  have c9 : a9 (nI a).toNatClampNeg = nI c := by rw [ca]; exact h9
  have c12 : a12 (nI a).toNatClampNeg = a12 a := by rw [ca]
  by_cases h12 : a12 a < 0
  · obtain ⟨h, n, g, hh, h1, h2, h5, hs, h3⟩ := IB b hb
    obtain ⟨r, hr, D⟩ := bq_wr (f := f) (go := go) (a3 := a3) (a4 := a4) (a5 := a5) (a6 := a6) (a7 := a7) (a8 := a8) (a9 := a9) (a10 := a10) (a11 := a11) (a12 := a12) ha hb h1 hh h2 (by omega) n 0 (-4) (by omega)
    have W : ∀ post : Int32 → Prop, post r → wpX_withinReach post (f, go, a1, a2, a3, a4, a5, a6, a7, a8, a9, a10, a11, a12) (nI a) := by
      intro post hp
      exact And.intro (pk_in a 2 ha) (nm_r c8 (D post hp))
    rcases hr with hr | ⟨i, hi, hr⟩
    · refine ⟨(f, go, a1, a2, a3, a4, a5, a6, a7, a8, a9, a10, a11, a12), I0, rfl, fun post hp => And.intro (pk_in a 2 ha) (br_t (by rw [c12]; exact h12) (W _ (br_t (by rw [hr]; decide) hp)))⟩
    · obtain ⟨k, a1', a2', a3', a4', a5', hk, I1, T1, fr, D1⟩ := bq_remove I0 hb h2 (by omega) hi
      refine ⟨(f, go, a1', a2', a3', a4', a5', a6, a7, a8, a9, a10, a11, upd a12 a k), bq_I12 _ I1, ?_, fun post hp => And.intro (pk_in a 2 ha) (br_t (by rw [c12]; exact h12) (W _ (br_f (by rw [hr]; exact nI_pos (by omega)) ⟨pk_in a 2 ha, ?_⟩)))⟩
      · rw [← T1]
        have t := bq_arm (a := a12) (x := k) ha
        rw [bq_h_n h12, bq_h_p hk] at t
        show go + (bq_h (upd a12 a k 0) + bq_h (upd a12 a k 1)) + (a2' 0 + a2' 1 + a2' 2 + a2' 3) = go + (bq_h (a12 0) + bq_h (a12 1)) + (a2' 0 + a2' 1 + a2' 2 + a2' 3) + 1
        grind
      · rw [c8, hr]
        exact D1 _ ⟨pk_in a 2 ha, nm_r (by rw [ca]) hp⟩
  · obtain ⟨q, hq, D2⟩ := bq_hasRoom I0 hc
    rcases hq with hq | ⟨hq, R⟩
    · refine ⟨(f, go, a1, a2, a3, a4, a5, a6, a7, a8, a9, a10, a11, a12), I0, rfl, fun post hp => And.intro (pk_in a 2 ha) (br_f (by rw [c12]; exact h12) ⟨pk_in a 2 ha, ?_⟩)⟩
      rw [c9]
      exact D2 _ (br_t hq hp)
    · obtain ⟨a2', a3', a4', a5', I2, T2, -, D3⟩ := bq_append I0 hc h12 R
      refine ⟨(f, go, a1, a2', a3', a4', a5', a6, a7, a8, a9, a10, a11, upd a12 a (-4)), bq_I12 _ I2, ?_, fun post hp => And.intro (pk_in a 2 ha) (br_f (by rw [c12]; exact h12) ⟨pk_in a 2 ha, ?_⟩)⟩
      · have t := bq_arm (a := a12) (x := -4) ha
        rw [bq_h_n (show (-4 : Int32) < 0 by decide), bq_h_p h12] at t
        have T3 : go + (bq_h (a12 0) + bq_h (a12 1)) + (a2' 0 + a2' 1 + a2' 2 + a2' 3) = bq_T (f, go, a1, a2, a3, a4, a5, a6, a7, a8, a9, a10, a11, a12) + 1 := T2
        show go + (bq_h (upd a12 a (-4) 0) + bq_h (upd a12 a (-4) 1)) + (a2' 0 + a2' 1 + a2' 2 + a2' 3) = bq_T (f, go, a1, a2, a3, a4, a5, a6, a7, a8, a9, a10, a11, a12)
        grind
      · rw [c9, c12]
        exact D2 _ (br_f (by rw [hq]; decide) ⟨pk_in a 2 ha, pk_in a 2 ha, D3 _ ⟨pk_in a 2 ha, nm_r (by rw [ca]) hp⟩⟩)
end
section
theorem bq_t25 {len : Nat} : ∀ (m k : Nat) (u : St2), k + m = 2 → bq_I len u → ∃ u' : St2, bq_I len u' ∧ bq_T u' = bq_T u ∧ ∀ post : St2 → Prop, post u' → ∃ fu, match u with | (f, go, a1, a2, a3, a4, a5, a6, a7, a8, a9, a10, a11, a12) => wX_tickOnce_25 post fu (nI k) f go a1 a2 a3 a4 a5 a6 a7 a8 a9 a10 a11 a12 := by
  intro m
  induction m with
  | zero =>
    intro k u hk I
    obtain ⟨f, go, a1, a2, a3, a4, a5, a6, a7, a8, a9, a10, a11, a12⟩ := u
    exact ⟨(f, go, a1, a2, a3, a4, a5, a6, a7, a8, a9, a10, a11, a12), I, rfl, fun post hp => ⟨1, pk_le 2 k (fun _ => hp) (fun z => absurd z (by omega))⟩⟩
  | succ m ih =>
    intro k u hk I
    obtain ⟨f, go, a1, a2, a3, a4, a5, a6, a7, a8, a9, a10, a11, a12⟩ := u
    by_cases h7 : a7 (nI k).toNatClampNeg = 0
    · obtain ⟨u', I', T', D⟩ := ih (k + 1) (f, go, a1, a2, a3, a4, a5, a6, a7, a8, a9, a10, a11, a12) (by omega) I
      refine ⟨u', I', T', fun post hp => ?_⟩
      obtain ⟨fu, hw⟩ := D post hp
      exact ⟨fu + 1, pk_le 2 k (fun z => absurd z (by omega)) (fun _ => ⟨pk_in k 2 (by omega), br_t h7 (nm_r (nI_1 k) hw)⟩)⟩
    · obtain ⟨u1, I1, T1, D1⟩ := bq_moveArm I (show k < 2 by omega)
      obtain ⟨u', I', T', D⟩ := ih (k + 1) u1 (by omega) I1
      refine ⟨u', I', T'.trans T1, fun post hp => ?_⟩
      obtain ⟨fu, hw⟩ := D post hp
      obtain ⟨f', go', a1', a2', a3', a4', a5', a6', a7', a8', a9', a10', a11', a12'⟩ := u1
      exact ⟨fu + 1, pk_le 2 k (fun z => absurd z (by omega)) (fun _ => ⟨pk_in k 2 (by omega), br_f h7 (D1 _ (nm_r (nI_1 k) hw))⟩)⟩
theorem bq_t2 {len : Nat} : ∀ (m k : Nat) (u : St2), k + m = 4 → bq_I len u → ∃ u' : St2, bq_I len u' ∧ bq_T u' = bq_T u ∧ ∀ post : St2 → Prop, post u' → ∃ fu, match u with | (f, go, a1, a2, a3, a4, a5, a6, a7, a8, a9, a10, a11, a12) => wX_tickOnce_2 post fu (nI k) f go a1 a2 a3 a4 a5 a6 a7 a8 a9 a10 a11 a12 := by
  intro m
  induction m with
  | zero =>
    intro k u hk I
    obtain ⟨u', I', T', D⟩ := bq_t25 2 0 u (by omega) I
    refine ⟨u', I', T', fun post hp => ?_⟩
    have hw := D post hp
    obtain ⟨f, go, a1, a2, a3, a4, a5, a6, a7, a8, a9, a10, a11, a12⟩ := u
    exact ⟨1, pk_le 4 k (fun _ => hw) (fun z => absurd z (by omega))⟩
  | succ m ih =>
    intro k u hk I
    obtain ⟨f, go, a1, a2, a3, a4, a5, a6, a7, a8, a9, a10, a11, a12⟩ := u
    obtain ⟨u1, I1, T1, D1⟩ := bq_passOn I (show k < 4 by omega)
    obtain ⟨f', go', a1', a2', a3', a4', a5', a6', a7', a8', a9', a10', a11', a12'⟩ := u1
    obtain ⟨u2, I2, T2, D2⟩ := bq_advance I1 (show k < 4 by omega)
    obtain ⟨u', I', T', D⟩ := ih (k + 1) u2 (by omega) I2
    refine ⟨u', I', (T'.trans T2).trans T1, fun post hp => ?_⟩
    obtain ⟨fu, hw⟩ := D post hp
    obtain ⟨f'', go'', a1'', a2'', a3'', a4'', a5'', a6'', a7'', a8'', a9'', a10'', a11'', a12''⟩ := u2
    exact ⟨fu + 1, pk_le 4 k (fun z => absurd z (by omega)) (fun _ => D1 _ (D2 _ (nm_r (nI_1 k) hw)))⟩
theorem bq_once {len : Nat} (u : St2) (I : bq_I len u) : ∃ u' : St2, bq_I len u' ∧ bq_T u' = bq_T u ∧ ∀ post : St2 → Prop, post u' → wpX_tickOnce post u := by
  obtain ⟨u', I', T', D⟩ := bq_t2 4 0 u (by omega) I
  refine ⟨u', I', T', fun post hp => ?_⟩
  have hw := D post hp
  obtain ⟨f, go, a1, a2, a3, a4, a5, a6, a7, a8, a9, a10, a11, a12⟩ := u
  exact hw
/-- the states of one object, tick by tick -/
theorem bq_seq {len : Nat} (u : St2) (I : bq_I len u) : ∃ S : Nat → St2, S 0 = u ∧ (∀ i, bq_I len (S i) ∧ bq_T (S i) = bq_T u) ∧ ∀ (i : Nat) (post : St2 → Prop), post (S (i + 1)) → wpX_tickOnce post (S i) := by
  have H : ∀ v : {v : St2 // bq_I len v}, ∃ w : {w : St2 // bq_I len w}, bq_T w.1 = bq_T v.1 ∧ ∀ post : St2 → Prop, post w.1 → wpX_tickOnce post v.1 := by
    intro v
    obtain ⟨u', I', T', D⟩ := bq_once v.1 v.2
    exact ⟨⟨u', I'⟩, T', D⟩
  let F : Nat → {v : St2 // bq_I len v} := fun n => Nat.rec ⟨u, I⟩ (fun _ v => Classical.choose (H v)) n
  have hF : ∀ i, bq_T (F (i + 1)).1 = bq_T (F i).1 ∧ ∀ post : St2 → Prop, post (F (i + 1)).1 → wpX_tickOnce post (F i).1 := fun i => Classical.choose_spec (H (F i))
  refine ⟨fun i => (F i).1, rfl, fun i => ⟨(F i).2, ?_⟩, fun i => (hF i).2⟩
  induction i with
  | zero => rfl
  | succ i ih => exact (hF i).1.trans ih
def bq_w23 (post : Int32 → St2 → Prop) (x2 x3 : Int32) (fu : Nat) (x4 : Int32) (u : St2) : Prop := match u with
  | (f, go, a1, a2, a3, a4, a5, a6, a7, a8, a9, a10, a11, a12) => wX_tick_23 post x2 x3 fu x4 f go a1 a2 a3 a4 a5 a6 a7 a8 a9 a10 a11 a12
theorem bq_t23 {S : Nat → St2} (hS : ∀ (i : Nat) (post : St2 → Prop), post (S (i + 1)) → wpX_tickOnce post (S i)) {post : Int32 → St2 → Prop} {x3 : Int32} {c n : Nat} (hn : n ≤ 200) (hp : post ((S (c + n)).2.1 - x3) (S (c + n))) :
    ∀ m k : Nat, k + m = n → ∃ fu, bq_w23 post (nI n) x3 fu (nI k) (S (c + k)) := by
  intro m
  induction m with
  | zero =>
    intro k hk
    have e : n = k := by omega
    subst e
    refine ⟨1, ?_⟩
    generalize S (c + n) = v at hp
    obtain ⟨f, go, a1, a2, a3, a4, a5, a6, a7, a8, a9, a10, a11, a12⟩ := v
    exact pk_le n n (fun _ => hp) (fun z => absurd z (by omega))
  | succ m ih =>
    intro k hk
    obtain ⟨fu, hw⟩ := ih (k + 1) (by omega)
    refine ⟨fu + 1, ?_⟩
    have D := hS (c + k)
    rw [show c + (k + 1) = c + k + 1 by omega] at hw
    generalize S (c + k) = v at D
    generalize S (c + k + 1) = w at D hw
    obtain ⟨f, go, a1, a2, a3, a4, a5, a6, a7, a8, a9, a10, a11, a12⟩ := v
    obtain ⟨f', go', a1', a2', a3', a4', a5', a6', a7', a8', a9', a10', a11', a12'⟩ := w
    exact pk_le n k (fun z => absurd z (by omega)) (fun _ => D _ (nm_r (nI_1 k) hw))
theorem bq_tick {S : Nat → St2} (hS : ∀ (i : Nat) (post : St2 → Prop), post (S (i + 1)) → wpX_tickOnce post (S i)) {post : Int32 → St2 → Prop} (c n : Nat) (hn : n ≤ 200) (hp : post ((S (c + n)).2.1 - (S c).2.1) (S (c + n))) :
    wpX_tick post (S c) (nI n) := by
  have hw := bq_t23 hS hn hp n 0 (by omega)
  rw [Nat.add_zero] at hw
  generalize S c = v at hw
  obtain ⟨f, go, a1, a2, a3, a4, a5, a6, a7, a8, a9, a10, a11, a12⟩ := v
  exact pk_le n 200 (fun _ => hw) (fun z => absurd z (by omega))
end
section
theorem bq_bad {post : Int32 → Prop} {b : Nat} (hb : b < 4) (hp : post 0) : wpX_bad post () (nI b) := by
  unfold wpX_bad
  exact br_f (nI_pos (by omega)) (pk_lt b 4 (fun _ => hp) (fun z => absurd z (by omega)))
theorem bq_items {f go : Int32} {a1 a2 a3 a4 a5 a6 a7 a8 a9 a10 a11 a12 : Nat → Int32} {b : Nat} (hb : b < 4) {post : Int32 → Prop} (hp : post (a2 b)) : wpX_items post (f, go, a1, a2, a3, a4, a5, a6, a7, a8, a9, a10, a11, a12) (nI b) := by
  unfold wpX_items
  dsimp only
  refine bq_bad hb (br_t rfl ⟨pk_in b 4 hb, ?_⟩)
  rw [bq_cl hb]
  exact hp
theorem bq_room {f go : Int32} {a1 a2 a3 a4 a5 a6 a7 a8 a9 a10 a11 a12 : Nat → Int32} {len b : Nat} (I : bq_I len (f, go, a1, a2, a3, a4, a5, a6, a7, a8, a9, a10, a11, a12)) (hb : b < 4) : ∃ r : Int32, ∀ post : Int32 → Prop, post r → wpX_room post (f, go, a1, a2, a3, a4, a5, a6, a7, a8, a9, a10, a11, a12) (nI b) := by
  obtain ⟨r, hr, D⟩ := bq_hasRoom I hb
  refine ⟨r, fun post hp => ?_⟩
  unfold wpX_room
  dsimp only
  refine bq_bad hb (br_t rfl (D _ ⟨?_, hp⟩))
  rcases hr with hr | ⟨hr, -⟩ <;> subst hr <;> decide
theorem bq_moving {f go : Int32} {a1 a2 a3 a4 a5 a6 a7 a8 a9 a10 a11 a12 : Nat → Int32} {len b h n : Nat} {g : Nat → Nat} (hl : len ≤ 60) (hb : b < 4) (B : bq_B len b a1 a2 a3 a5 h n g) :
    ∃ r, r ≤ n ∧ (∀ j, j < r → g j = 0) ∧ (r < n → g r ≠ 0) ∧ ∀ post : Int32 → Prop, post (nI (n - r)) → wpX_moving post (f, go, a1, a2, a3, a4, a5, a6, a7, a8, a9, a10, a11, a12) (nI b) := by
  obtain ⟨r, r2, r3, r4, D⟩ := bq_firstOpen (f := f) (go := go) (a4 := a4) (a6 := a6) (a7 := a7) (a8 := a8) (a9 := a9) (a10 := a10) (a11 := a11) (a12 := a12) hl hb B
  refine ⟨r, r2, r3, r4, fun post hp => ?_⟩
  unfold wpX_moving
  dsimp only
  refine bq_bad hb (br_t rfl ⟨pk_in b 4 hb, D _ ?_⟩)
  rw [bq_cl hb, B.2.2.1, pk_sub r2]
  exact hp
theorem bq_pl {f go : Int32} {a1 a2 a3 a4 a5 a6 a7 a8 a9 a10 a11 a12 : Nat → Int32} {b h n i : Nat} {g : Nat → Nat} (hb : b < 4) (h1 : a1 b = nI h) (hh : h < 16) (hn : n ≤ 16) (hi : i < n) (h3 : ∀ i, i < n → a3 (bq_sl b h i) = nI (g i)) {post : Int32 → Prop} (hp : post (nI (4 * i + bq_sm g (i + 1)))) :
    ∀ m k : Nat, k + m = i + 1 → ∃ fu, wX_placeOf_7 post (nI b) (nI i) f go a1 a2 a3 a4 a5 a6 a7 a8 a9 a10 a11 a12 fu (nI (4 * i + bq_sm g k)) (nI k) := by
  intro m
  induction m with
  | zero =>
    intro k hk
    have e : k = i + 1 := by omega
    rw [e]
    exact ⟨1, pk_lt i (i + 1) (fun _ => hp) (fun z => absurd z (by omega))⟩
  | succ m ih =>
    intro k hk
    obtain ⟨fu, hw⟩ := ih (k + 1) (by omega)
    refine ⟨fu + 1, pk_lt i k (fun z => absurd z (by omega)) (fun _ => bq_slot hb h1 hh (i := k) (by omega) ⟨bq_ins hb, nm_r (e' := nI (4 * i + bq_sm g (k + 1))) ?_ (nm_r (nI_1 k) hw)⟩)⟩
    rw [bq_cls hb, h3 k (by omega), nI_add, bq_sm_s, Nat.add_assoc]
theorem bq_place {f go : Int32} {a1 a2 a3 a4 a5 a6 a7 a8 a9 a10 a11 a12 : Nat → Int32} {len b h n i : Nat} {g : Nat → Nat} (hl : len ≤ 60) (hb : b < 4) (B : bq_B len b a1 a2 a3 a5 h n g) (hi : i < n) {post : Int32 → Prop} (hp : post (nI (4 * i + bq_sm g (i + 1)))) :
    wpX_place post (f, go, a1, a2, a3, a4, a5, a6, a7, a8, a9, a10, a11, a12) (nI b) (nI i) := by
  obtain ⟨hh, h1, h2, h5, hs, h3⟩ := B
  have e2 : a2 (nI b).toNatClampNeg = nI n := by rw [bq_cl hb]; exact h2
  unfold wpX_place
  dsimp only
  refine bq_bad hb (br_t rfl (br_f (nI_pos (by omega)) ⟨pk_in b 4 hb, pk_lt i n (fun _ => ?_) (fun z => absurd z (by omega)) rfl e2⟩))
  unfold wpX_placeOf
  dsimp only
  exact nm_r (e' := nI (4 * i + bq_sm g 0)) (pk_mul 4 i) (bq_pl hb h1 hh (by omega) hi h3 hp (i + 1) 0 (by omega))
theorem bq_place0 {f go : Int32} {a1 a2 a3 a4 a5 a6 a7 a8 a9 a10 a11 a12 : Nat → Int32} {len b h n i : Nat} {g : Nat → Nat} (hl : len ≤ 60) (hb : b < 4) (B : bq_B len b a1 a2 a3 a5 h n g) (hi : n ≤ i) (hi2 : i < 100) {post : Int32 → Prop} (hp : post (-4)) :
    wpX_place post (f, go, a1, a2, a3, a4, a5, a6, a7, a8, a9, a10, a11, a12) (nI b) (nI i) := by
  obtain ⟨hh, h1, h2, h5, hs, h3⟩ := B
  have e2 : a2 (nI b).toNatClampNeg = nI n := by rw [bq_cl hb]; exact h2
  unfold wpX_place
  dsimp only
  exact bq_bad hb (br_t rfl (br_f (nI_pos (by omega)) ⟨pk_in b 4 hb, pk_lt i n (fun z => absurd z (by omega)) (fun _ => hp) rfl e2⟩))
theorem bq_placeE {f go : Int32} {a1 a2 a3 a4 a5 a6 a7 a8 a9 a10 a11 a12 : Nat → Int32} {len b i : Nat} (I : bq_I len (f, go, a1, a2, a3, a4, a5, a6, a7, a8, a9, a10, a11, a12)) (hb : b < 4) (hi : i < 100) : ∃ r : Int32, ∀ post : Int32 → Prop, post r → wpX_place post (f, go, a1, a2, a3, a4, a5, a6, a7, a8, a9, a10, a11, a12) (nI b) (nI i) := by
  obtain ⟨hf, hl8, hl, IB, -⟩ := I
  obtain ⟨h, n, g, B⟩ := IB b hb
  by_cases hin : i < n
  · exact ⟨_, fun post hp => bq_place hl hb B hin hp⟩
  · exact ⟨-4, fun post hp => bq_place0 hl hb B (by omega) hi hp⟩
theorem bq_kindE {f go : Int32} {a1 a2 a3 a4 a5 a6 a7 a8 a9 a10 a11 a12 : Nat → Int32} {len b i : Nat} (I : bq_I len (f, go, a1, a2, a3, a4, a5, a6, a7, a8, a9, a10, a11, a12)) (hb : b < 4) (hi : i < 64) : ∃ r : Int32, ∀ post : Int32 → Prop, post r → wpX_kind post (f, go, a1, a2, a3, a4, a5, a6, a7, a8, a9, a10, a11, a12) (nI b) (nI i) := by
  obtain ⟨hf, hl8, hl, IB, -⟩ := I
  obtain ⟨h, n, g, hh, h1, h2, h5, hs, h3⟩ := IB b hb
  have e2 : a2 (nI b).toNatClampNeg = nI n := by rw [bq_cl hb]; exact h2
  by_cases hin : i < n
  · refine ⟨a4 (nI (bq_sl b h i)).toNatClampNeg, fun post hp => ?_⟩
    unfold wpX_kind
    dsimp only
    exact bq_bad hb (br_t rfl (br_f (nI_pos (by omega)) ⟨pk_in b 4 hb, pk_lt i n (fun _ => bq_slot hb h1 hh (i := i) (by omega) ⟨bq_ins hb, hp⟩) (fun z => absurd z (by omega)) rfl e2⟩))
  · refine ⟨-4, fun post hp => ?_⟩
    unfold wpX_kind
    dsimp only
    exact bq_bad hb (br_t rfl (br_f (nI_pos (by omega)) ⟨pk_in b 4 hb, pk_lt i n (fun z => absurd z (by omega)) (fun _ => hp) rfl e2⟩))
theorem bq_held {f go : Int32} {a1 a2 a3 a4 a5 a6 a7 a8 a9 a10 a11 a12 : Nat → Int32} {a : Nat} (ha : a < 2) {post : Int32 → Prop} (hp : post (a12 a)) : wpX_held post (f, go, a1, a2, a3, a4, a5, a6, a7, a8, a9, a10, a11, a12) (nI a) := by
  have ca : (nI a).toNatClampNeg = a := nI_clamp (by omega)
  refine br_f (nI_pos (by omega)) (pk_le a 1 (fun _ => ⟨pk_in a 2 ha, ?_⟩) (fun z => absurd z (by omega)))
  rw [ca]
  exact hp
theorem bq_out {f go : Int32} {a1 a2 a3 a4 a5 a6 a7 a8 a9 a10 a11 a12 : Nat → Int32} {post : Int32 → Prop} (hp : post go) : wpX_out post (f, go, a1, a2, a3, a4, a5, a6, a7, a8, a9, a10, a11, a12) := hp
theorem bq_s50 {f go : Int32} {a1 a2 a3 a4 a5 a6 a7 a8 a9 a10 a11 a12 : Nat → Int32} {len b : Nat} (I : bq_I len (f, go, a1, a2, a3, a4, a5, a6, a7, a8, a9, a10, a11, a12)) (hb : b < 4) {post : Int32 → Prop} {J : Int32 → Prop} (hJ : J (nI (b + 1))) :
    ∀ m k : Nat, k + m = 16 → ∃ fu, wL_same_50 post J (nI b) f go a1 a2 a3 a4 a5 a6 a7 a8 a9 a10 a11 a12 f go a1 a2 a3 a4 a5 a6 a7 a8 a9 a10 a11 a12 fu (nI k) := by
  intro m
  induction m with
  | zero =>
    intro k hk
    exact ⟨1, pk_le 16 k (fun _ => nm_r (nI_1 b) hJ) (fun z => absurd z (by omega))⟩
  | succ m ih =>
    intro k hk
    obtain ⟨fu, hw⟩ := ih (k + 1) (by omega)
    obtain ⟨p, P⟩ := bq_placeE I hb (show k < 100 by omega)
    obtain ⟨q, Q⟩ := bq_kindE I hb (show k < 64 by omega)
    exact ⟨fu + 1, pk_le 16 k (fun z => absurd z (by omega)) (fun _ => P _ (P _ (br_t rfl (Q _ (Q _ (br_t rfl (nm_r (nI_1 k) hw)))))))⟩
theorem bq_s2 {f go : Int32} {a1 a2 a3 a4 a5 a6 a7 a8 a9 a10 a11 a12 : Nat → Int32} {len : Nat} (I : bq_I len (f, go, a1, a2, a3, a4, a5, a6, a7, a8, a9, a10, a11, a12)) {post : Int32 → Prop} (hp : post 1) :
    ∀ m k : Nat, k + m = 4 → ∃ fu, wL_same_2 post f go a1 a2 a3 a4 a5 a6 a7 a8 a9 a10 a11 a12 f go a1 a2 a3 a4 a5 a6 a7 a8 a9 a10 a11 a12 fu (nI k) := by
  intro m
  induction m with
  | zero =>
    intro k hk
    refine ⟨1, pk_le 4 k (fun _ => ?_) (fun z => absurd z (by omega))⟩
    exact bq_out (bq_out (br_t rfl (bq_held (a := 0) (by omega) (bq_held (a := 0) (by omega) (br_t rfl (bq_held (a := 1) (by omega) (bq_held (a := 1) (by omega) (br_t rfl hp))))))))
  | succ m ih =>
    intro k hk
    obtain ⟨fu, hw⟩ := ih (k + 1) (by omega)
    obtain ⟨r, R⟩ := bq_room I (show k < 4 by omega)
    obtain ⟨hf, hl8, hl, IB, -⟩ := id I
    obtain ⟨h, n, g, B⟩ := IB k (by omega)
    obtain ⟨v, -, -, -, V⟩ := bq_moving (f := f) (go := go) (a4 := a4) (a6 := a6) (a7 := a7) (a8 := a8) (a9 := a9) (a10 := a10) (a11 := a11) (a12 := a12) hl (show k < 4 by omega) B
    exact ⟨fu + 1, pk_le 4 k (fun z => absurd z (by omega)) (fun _ => bq_items (show k < 4 by omega) (bq_items (show k < 4 by omega) (br_t rfl (R _ (R _ (br_t rfl (V _ (V _ (br_t rfl (bq_s50 I (show k < 4 by omega) hw 16 0 (by omega)))))))))))⟩
theorem bq_same {f go : Int32} {a1 a2 a3 a4 a5 a6 a7 a8 a9 a10 a11 a12 : Nat → Int32} {len : Nat} (I : bq_I len (f, go, a1, a2, a3, a4, a5, a6, a7, a8, a9, a10, a11, a12)) {post : Int32 → Prop} (hp : post 1) : wpL_same post (f, go, a1, a2, a3, a4, a5, a6, a7, a8, a9, a10, a11, a12, f, go, a1, a2, a3, a4, a5, a6, a7, a8, a9, a10, a11, a12) := by
  have hw := bq_s2 I hp 4 0 (by omega)
  exact hw
theorem bq_b74 {f go : Int32} {a1 a2 a3 a4 a5 a6 a7 a8 a9 a10 a11 a12 : Nat → Int32} {post : Int32 → Prop} {J : Int32 → Int32 → Prop} {x1 x3 z0 x7 : Int32} {len k p d : Nat} (hl : len ≤ 60) (hp : p ≤ len) (hd : 4 ≤ d) (hd2 : d < 1000) (e7 : nI p - x7 = nI d) (hJ : J z0 (nI (k + 1))) :
    wL_belt_74 post J x1 (nI len) x3 (nI k) (nI p) x7 z0 f go a1 a2 a3 a4 a5 a6 a7 a8 a9 a10 a11 a12 := by
  unfold wL_belt_74
  exact br_f (nI_pos (by omega)) (pk_lt len p (fun z => absurd z (by omega)) (fun _ => pk_le 4 d (fun _ => nm_r (nI_1 k) hJ) (fun z => absurd z (by omega)) rfl e7))
theorem bq_b53 {f go : Int32} {a1 a2 a3 a4 a5 a6 a7 a8 a9 a10 a11 a12 : Nat → Int32} {post : Int32 → Prop} {J : Int32 → Int32 → Prop} {x1 x3 x4 x7 : Int32} {len n k : Nat} {g : Nat → Nat} {d : Nat} (hl : len ≤ 60) (hk : k < n) (hp : 4 * k + bq_sm g (k + 1) ≤ len) (hd : 4 ≤ d) (hd2 : d < 1000) (e7 : nI (4 * k + bq_sm g (k + 1)) - x7 = nI d)
    (h4 : x4 = 1 ∧ (∀ j, j < k → j < n → g j = 0) ∨ x4 = 0 ∧ ∃ j, j < k ∧ j < n ∧ g j ≠ 0)
    (hJ : ∀ z0 : Int32, (z0 = 1 ∧ (∀ j, j < k + 1 → j < n → g j = 0) ∨ z0 = 0 ∧ ∃ j, j < k + 1 ∧ j < n ∧ g j ≠ 0) → J z0 (nI (k + 1))) :
    wL_belt_53 post J x1 (nI len) x3 x4 (nI k) (nI (4 * k + bq_sm g (k + 1))) x7 f go a1 a2 a3 a4 a5 a6 a7 a8 a9 a10 a11 a12 := by
  unfold wL_belt_53
  rcases h4 with ⟨e, h⟩ | ⟨e, h⟩
  · subst e
    have hs : bq_sm g k = 0 := bq_sm_0 (fun j hj => h j hj (by omega))
    refine br_f (by decide) (pk_eq (4 * k + bq_sm g (k + 1)) (4 * k) (fun z => ?_) (fun z => ?_) rfl (pk_mul 4 k))
    · refine bq_b74 hl hp hd hd2 e7 (hJ 1 (Or.inl ⟨rfl, fun j hj hjn => ?_⟩))
      rw [bq_sm_s] at z
      by_cases ej : j = k
      · subst ej; omega
      · exact h j (by omega) hjn
    · unfold wL_belt_73
      refine bq_b74 hl hp hd hd2 e7 (hJ 0 (Or.inr ⟨rfl, k, by omega, hk, ?_⟩))
      rw [bq_sm_s] at z
      omega
  · subst e
    refine br_t rfl ?_
    unfold wL_belt_73
    obtain ⟨j, j1, j2, j3⟩ := h
    exact bq_b74 hl hp hd hd2 e7 (hJ 0 (Or.inr ⟨rfl, j, by omega, j2, j3⟩))
theorem bq_b12 {f go : Int32} {a1 a2 a3 a4 a5 a6 a7 a8 a9 a10 a11 a12 : Nat → Int32} {len b h n : Nat} {g : Nat → Nat} (hl : len ≤ 60) (hb : b < 4) (B : bq_B len b a1 a2 a3 a5 h n g) {post : Int32 → Prop} (hp : post 1) :
    ∀ (m k : Nat) (x4 : Int32), k + m = 16 → (x4 = 1 ∧ (∀ j, j < k → j < n → g j = 0) ∨ x4 = 0 ∧ ∃ j, j < k ∧ j < n ∧ g j ≠ 0) → ∃ fu, wL_belt_12 post (nI b) (nI len) (nI n) f go a1 a2 a3 a4 a5 a6 a7 a8 a9 a10 a11 a12 fu x4 (nI k) := by
  have hs := B.2.2.2.2.1
  intro m
  induction m with
  | zero =>
    intro k x4 hk h4
    obtain ⟨v, v1, v2, v3, V⟩ := bq_moving (f := f) (go := go) (a4 := a4) (a6 := a6) (a7 := a7) (a8 := a8) (a9 := a9) (a10 := a10) (a11 := a11) (a12 := a12) hl hb B
    refine ⟨1, pk_le 16 k (fun _ => V _ (pk_eq (n - v) 0 (fun z => ?_) (fun z => ?_))) (fun z => absurd z (by omega))⟩
    · unfold wL_belt_117
      rcases h4 with ⟨e, h⟩ | ⟨e, j, -, hj, h⟩
      · exact br_t e.symm (pk_lt 16 n (fun z => absurd z (by omega)) (fun _ => hp))
      · exact absurd (v2 j (by omega)) h
    · unfold wL_belt_117
      rcases h4 with ⟨e, h⟩ | ⟨e, h⟩
      · exact absurd (h v (by omega) (by omega)) (v3 (by omega))
      · exact br_t e.symm (pk_lt 16 n (fun z => absurd z (by omega)) (fun _ => hp))
  | succ m ih =>
    intro k x4 hk h4
    by_cases hkn : n ≤ k
    · obtain ⟨fu, hw⟩ := ih (k + 1) x4 (by omega) (by
        rcases h4 with ⟨e, h⟩ | ⟨e, j, j1, j2, j3⟩
        · exact Or.inl ⟨e, fun j _ hj => h j (by omega) hj⟩
        · exact Or.inr ⟨e, j, by omega, j2, j3⟩)
      exact ⟨fu + 1, pk_le 16 k (fun z => absurd z (by omega)) (fun _ => pk_le n k (fun _ => nm_r (nI_1 k) hw) (fun z => absurd z (by omega)))⟩
    · have hw : ∃ fu, ∀ z0 : Int32, (z0 = 1 ∧ (∀ j, j < k + 1 → j < n → g j = 0) ∨ z0 = 0 ∧ ∃ j, j < k + 1 ∧ j < n ∧ g j ≠ 0) → wL_belt_12 post (nI b) (nI len) (nI n) f go a1 a2 a3 a4 a5 a6 a7 a8 a9 a10 a11 a12 fu z0 (nI (k + 1)) := by
        by_cases hz : ∃ j, j < k + 1 ∧ j < n ∧ g j ≠ 0
        · obtain ⟨fu, hw⟩ := ih (k + 1) 0 (by omega) (Or.inr ⟨rfl, hz⟩)
          refine ⟨fu, fun z0 h0 => ?_⟩
          rcases h0 with ⟨e, h⟩ | ⟨e, h⟩
          · obtain ⟨j, j1, j2, j3⟩ := hz
            exact absurd (h j j1 j2) j3
          · rw [e]; exact hw
        · have hz' : ∀ j, j < k + 1 → j < n → g j = 0 := fun j j1 j2 => Classical.byContradiction (fun z => hz ⟨j, j1, j2, z⟩)
          obtain ⟨fu, hw⟩ := ih (k + 1) 1 (by omega) (Or.inl ⟨rfl, hz'⟩)
          refine ⟨fu, fun z0 h0 => ?_⟩
          rcases h0 with ⟨e, h⟩ | ⟨e, h⟩
          · rw [e]; exact hw
          · exact absurd h hz
      obtain ⟨fu, hw⟩ := hw
      have hm := bq_sm_mono (g := g) (show k + 1 ≤ n by omega)
      have hpl : 4 * k + bq_sm g (k + 1) ≤ len := by omega
      refine ⟨fu + 1, pk_le 16 k (fun z => absurd z (by omega)) (fun _ => pk_le n k (fun z => absurd z hkn) (fun _ => bq_place hl hb B (by omega) (pk_eq k 0 (fun z => ?_) (fun z => ?_))))⟩
      · refine bq_b53 (d := 4 * k + bq_sm g (k + 1) + 4) hl (by omega) hpl (by omega) (by omega) ?_ h4 hw
        rw [← nI_add _ 4, show nI 4 = 4 from rfl]
        grind
      · obtain ⟨j, e⟩ : ∃ j, k = j + 1 := ⟨k - 1, by omega⟩
        have ek : nI k - 1 = nI j := by rw [e]; exact nI_pred j
        rw [ek]
        refine bq_place hl hb B (by omega) ?_
        refine bq_b53 (d := 4 + g k) hl (by omega) hpl (by omega) ?_ ?_ h4 hw
        · have := bq_sm_at (g := g) (show k < n by omega); omega
        · rw [pk_sub ?_]
          · rw [bq_sm_s g k, e]
            exact congrArg nI (by omega)
          · rw [bq_sm_s g k, e]
            omega
theorem bq_belt {f go : Int32} {a1 a2 a3 a4 a5 a6 a7 a8 a9 a10 a11 a12 : Nat → Int32} {len b : Nat} (I : bq_I len (f, go, a1, a2, a3, a4, a5, a6, a7, a8, a9, a10, a11, a12)) (hb : b < 4) {post : Int32 → Prop} (hp : post 1) : wpL_belt post (f, go, a1, a2, a3, a4, a5, a6, a7, a8, a9, a10, a11, a12) (nI b) (nI len) := by
  obtain ⟨hf, hl8, hl, IB, -⟩ := I
  obtain ⟨h, n, g, B⟩ := IB b hb
  unfold wpL_belt
  dsimp only
  refine bq_items hb ?_
  rw [B.2.2.1]
  exact bq_b12 hl hb B hp 16 0 1 (by omega) (Or.inl ⟨rfl, fun j hj => absurd hj (by omega)⟩)
end
section
theorem bq_put {f go : Int32} {a1 a2 a3 a4 a5 a6 a7 a8 a9 a10 a11 a12 : Nat → Int32} {len b k : Nat} (I : bq_I len (f, go, a1, a2, a3, a4, a5, a6, a7, a8, a9, a10, a11, a12)) (hb : b < 4) (hk : k < 8) :
    ∃ (r : Int32) (u' : St2), bq_I len u' ∧ (r ≤ 0 ∧ bq_T u' = bq_T (f, go, a1, a2, a3, a4, a5, a6, a7, a8, a9, a10, a11, a12) ∨ ¬ r ≤ 0 ∧ bq_T u' = bq_T (f, go, a1, a2, a3, a4, a5, a6, a7, a8, a9, a10, a11, a12) + 1) ∧ ∀ post : Int32 → St2 → Prop, post r u' → wpX_put post (f, go, a1, a2, a3, a4, a5, a6, a7, a8, a9, a10, a11, a12) (nI b) (nI k) := by
  obtain ⟨q, hq, D⟩ := bq_hasRoom I hb
  have hk0 : ¬ nI k < 0 := nI_pos (by omega)
  rcases hq with hq | ⟨hq, R⟩
  · refine ⟨-3, (f, go, a1, a2, a3, a4, a5, a6, a7, a8, a9, a10, a11, a12), I, Or.inl ⟨by decide, rfl⟩, fun post hp => ?_⟩
    unfold wpX_put
    dsimp only
    exact bq_bad hb (br_t rfl (br_f hk0 (pk_le k 7 (fun _ => D _ (br_t hq hp)) (fun z => absurd z (by omega)))))
  · obtain ⟨a2', a3', a4', a5', I2, T2, N2, D2⟩ := bq_append I hb hk0 R
    refine ⟨a2' b, (f, go, a1, a2', a3', a4', a5', a6, a7, a8, a9, a10, a11, a12), I2, Or.inr ⟨N2, T2⟩, fun post hp => ?_⟩
    unfold wpX_put
    dsimp only
    refine bq_bad hb (br_t rfl (br_f hk0 (pk_le k 7 (fun _ => D _ (br_f (by rw [hq]; decide) (D2 _ ⟨pk_in b 4 hb, ?_⟩))) (fun z => absurd z (by omega)))))
    rw [bq_cl hb]
    exact hp
theorem bq_take {f go : Int32} {a1 a2 a3 a4 a5 a6 a7 a8 a9 a10 a11 a12 : Nat → Int32} {len b : Nat} (I : bq_I len (f, go, a1, a2, a3, a4, a5, a6, a7, a8, a9, a10, a11, a12)) (hb : b < 4) :
    ∃ (r : Int32) (u' : St2), bq_I len u' ∧ (r < 0 ∧ bq_T u' = bq_T (f, go, a1, a2, a3, a4, a5, a6, a7, a8, a9, a10, a11, a12) ∨ ¬ r < 0 ∧ bq_T u' + 1 = bq_T (f, go, a1, a2, a3, a4, a5, a6, a7, a8, a9, a10, a11, a12)) ∧ ∀ post : Int32 → St2 → Prop, post r u' → wpX_take post (f, go, a1, a2, a3, a4, a5, a6, a7, a8, a9, a10, a11, a12) (nI b) := by
  obtain ⟨r, hr, D⟩ := bq_atEnd I hb
  rcases hr with hr | ⟨hr, n, h2, hn31, hn0⟩
  · refine ⟨-4, (f, go, a1, a2, a3, a4, a5, a6, a7, a8, a9, a10, a11, a12), I, Or.inl ⟨by decide, rfl⟩, fun post hp => ?_⟩
    unfold wpX_take
    dsimp only
    exact bq_bad hb (br_t rfl (D _ (br_t hr hp)))
  · obtain ⟨k, a1', a2', a3', a4', a5', hk, I1, T1, fr, D1⟩ := bq_remove2 I hb h2 hn31 hn0
    refine ⟨k, (f, go, a1', a2', a3', a4', a5', a6, a7, a8, a9, a10, a11, a12), I1, Or.inr ⟨hk, T1⟩, fun post hp => ?_⟩
    unfold wpX_take
    dsimp only
    exact bq_bad hb (br_t rfl (D _ (br_f hr (D1 _ hp))))
theorem bq_Lin {b : Nat} {x : Int32} (h1 : ¬ x < -2) (h2 : ¬ 4 ≤ x) (h3 : ¬ x = nI b) : bq_L b x := by
  by_cases h0 : x < 0
  · by_cases e : x = -2
    · exact Or.inl e
    · refine Or.inr (Or.inl ?_)
      rw [Int32.lt_iff_toInt_lt] at h1 h0
      apply Int32.toInt_inj.mp
      have e2 : ¬ x.toInt = -2 := fun z => e (Int32.toInt_inj.mp z)
      have d0 : (0 : Int32).toInt = 0 := by decide
      have d1 : (-1 : Int32).toInt = -1 := by decide
      have d2 : (-2 : Int32).toInt = -2 := by decide
      rw [d1]
      rw [d0] at h0
      rw [d2] at h1
      omega
  · obtain ⟨j, hj, e⟩ := nI_of h0
    refine Or.inr (Or.inr ⟨j, ?_, fun z => h3 (by rw [e, z]), e⟩)
    rcases Nat.lt_or_ge j 4 with z | z
    · exact z
    · exact absurd (show (4 : Int32) ≤ x from by rw [e]; exact nI_le z hj) h2
theorem bq_lead {f go : Int32} {a1 a2 a3 a4 a5 a6 a7 a8 a9 a10 a11 a12 : Nat → Int32} {len b : Nat} (I : bq_I len (f, go, a1, a2, a3, a4, a5, a6, a7, a8, a9, a10, a11, a12)) (hb : b < 4) (x : Int32) :
    ∃ (r : Int32) (u' : St2), bq_I len u' ∧ bq_T u' = bq_T (f, go, a1, a2, a3, a4, a5, a6, a7, a8, a9, a10, a11, a12) ∧ ∀ post : Int32 → St2 → Prop, post r u' → wpX_lead post (f, go, a1, a2, a3, a4, a5, a6, a7, a8, a9, a10, a11, a12) (nI b) x := by
  by_cases h1 : x < -2
  · refine ⟨-5, (f, go, a1, a2, a3, a4, a5, a6, a7, a8, a9, a10, a11, a12), I, rfl, fun post hp => ?_⟩
    unfold wpX_lead
    dsimp only
    exact bq_bad hb (br_t rfl (br_t h1 hp))
  · by_cases h2 : 4 ≤ x
    · refine ⟨-5, (f, go, a1, a2, a3, a4, a5, a6, a7, a8, a9, a10, a11, a12), I, rfl, fun post hp => ?_⟩
      unfold wpX_lead
      dsimp only
      exact bq_bad hb (br_t rfl (br_f h1 (br_t h2 hp)))
    · by_cases h3 : x = nI b
      · refine ⟨-5, (f, go, a1, a2, a3, a4, a5, a6, a7, a8, a9, a10, a11, a12), I, rfl, fun post hp => ?_⟩
        unfold wpX_lead
        dsimp only
        exact bq_bad hb (br_t rfl (br_f h1 (br_f h2 (br_t h3 hp))))
      · obtain ⟨hf, hl8, hl, IB, I4, I6, I8, I9⟩ := I
        refine ⟨a6 b, (f, go, a1, a2, a3, a4, a5, upd a6 b x, a7, a8, a9, a10, a11, a12), ⟨hf, hl8, hl, IB, I4, fun c hc => ?_, I8, I9⟩, rfl, fun post hp => ?_⟩
        · by_cases e : c = b
          · rw [e, pk_us]; exact bq_Lin h1 h2 h3
          · rw [pk_un e]; exact I6 c hc
        · unfold wpX_lead
          dsimp only
          exact bq_bad hb (br_t rfl (br_f h1 (br_f h2 (br_f h3 ⟨pk_in b 4 hb, nm_r (by rw [bq_cl hb]) ⟨pk_in b 4 hb, nm_r (by rw [bq_cl hb]) hp⟩⟩))))
theorem bq_arm3 {a8 : Nat → Int32} {a : Nat} {y : Int32} (h : ∀ a, a < 2 → ∃ t, t < 4 ∧ a8 a = nI t) : ∀ c, c < 2 → ∃ t, t < 4 ∧ upd a8 a (y &&& 3) c = nI t := by
  intro c hc
  by_cases e : c = a
  · obtain ⟨t, ht, z⟩ := pk_andE y (m := 3) 2 (by decide)
    exact ⟨t, ht, by rw [e, pk_us]; exact z⟩
  · rw [pk_un e]
    exact h c hc
theorem bq_armc {f go : Int32} {a1 a2 a3 a4 a5 a6 a7 a8 a9 a10 a11 a12 : Nat → Int32} {len a : Nat} (I : bq_I len (f, go, a1, a2, a3, a4, a5, a6, a7, a8, a9, a10, a11, a12)) (ha : a < 2) (p1 p2 p3 : Int32) :
    ∃ (r : Int32) (u' : St2), bq_I len u' ∧ bq_T u' = bq_T (f, go, a1, a2, a3, a4, a5, a6, a7, a8, a9, a10, a11, a12) ∧ ∀ post : Int32 → St2 → Prop, post r u' → wpX_arm post (f, go, a1, a2, a3, a4, a5, a6, a7, a8, a9, a10, a11, a12) (nI a) p1 p2 p3 := by
  have ca : (nI a).toNatClampNeg = a := nI_clamp (by omega)
  have g0 : ¬ nI a < 0 := nI_pos (by omega)
  have g1 : ¬ 1 < nI a := nI_nlt (a := 1) (b := a) (by omega) (by omega)
  by_cases h1 : p2 < 0
  · exact ⟨-5, (f, go, a1, a2, a3, a4, a5, a6, a7, a8, a9, a10, a11, a12), I, rfl, fun post hp => br_f g0 (br_f g1 (br_t h1 hp))⟩
  · by_cases h2 : p2 ≤ 60
    · obtain ⟨hf, hl8, hl, IB, I4, I6, I8, I9⟩ := I
      refine ⟨0, (f, go, a1, a2, a3, a4, a5, a6, upd a7 a 1, upd a8 a (p1 &&& 3), upd a9 a ((p1 >>> ((2 : Int32) &&& 31)) &&& 3), upd a10 a p2, upd a11 a (p3 &&& 255), a12), ⟨hf, hl8, hl, IB, I4, I6, bq_arm3 I8, bq_arm3 I9⟩, rfl, fun post hp => br_f g0 (br_f g1 (br_f h1 (br_t h2 ?_)))⟩
      exact ⟨pk_in a 2 ha, nm_r (by rw [ca]) ⟨pk_in a 2 ha, nm_r (by rw [ca]) ⟨pk_in a 2 ha, nm_r (by rw [ca]) ⟨pk_in a 2 ha, nm_r (by rw [ca]) ⟨pk_in a 2 ha, nm_r (by rw [ca]) hp⟩⟩⟩⟩⟩
    · exact ⟨-5, (f, go, a1, a2, a3, a4, a5, a6, a7, a8, a9, a10, a11, a12), I, rfl, fun post hp => br_f g0 (br_f g1 (br_f h1 (br_f h2 hp)))⟩
theorem bq_i137 {mc ms kc ks : Nat} {f go : Int32} {a1 a2 a3 a4 a5 a6 a7 a8 a9 a10 a11 : Nat → Int32} :
    ∀ (m k : Nat) (a12 : Nat → Int32), k + m = 2 → (∀ j, j < k → a12 j = -4) → ∃ a : Nat → Int32, (∀ j, j < 2 → a j = -4) ∧ ∀ post : St2 → Prop, post (f, go, a1, a2, a3, a4, a5, a6, a7, a8, a9, a10, a11, a) → ∃ fu, wX_init_137 post mc ms kc ks f go fu (nI k) a1 a2 a3 a4 a5 a6 a7 a8 a9 a10 a11 a12 := by
  intro m
  induction m with
  | zero =>
    intro k a12 hk h
    exact ⟨a12, fun j hj => h j (by omega), fun post hp => ⟨1, pk_le 2 k (fun _ => hp) (fun z => absurd z (by omega))⟩⟩
  | succ m ih =>
    intro k a12 hk h
    obtain ⟨a, ha, D⟩ := ih (k + 1) (upd a12 k (-4)) (by omega) (fun j hj => by
      by_cases e : j = k
      · rw [e, pk_us]
      · rw [pk_un e]; exact h j (by omega))
    refine ⟨a, ha, fun post hp => ?_⟩
    obtain ⟨fu, hw⟩ := D post hp
    exact ⟨fu + 1, pk_le 2 k (fun z => absurd z (by omega)) (fun _ => ⟨pk_in k 2 (by omega), nm_r (by rw [nI_clamp (show k < 2 ^ 31 by omega)]) (nm_r (nI_1 k) hw)⟩)⟩
theorem bq_i117 {mc ms kc ks : Nat} {f go : Int32} {a1 a2 a3 a4 a5 a7 a8 a9 a10 a11 a12 : Nat → Int32} :
    ∀ (m k : Nat) (a6 : Nat → Int32), k + m = 4 → (∀ j, j < k → a6 j = -1) → ∃ a a' : Nat → Int32, (∀ j, j < 4 → a j = -1) ∧ (∀ j, j < 2 → a' j = -4) ∧ ∀ post : St2 → Prop, post (f, go, a1, a2, a3, a4, a5, a, a7, a8, a9, a10, a11, a') → ∃ fu, wX_init_117 post mc ms kc ks f go fu (nI k) a1 a2 a3 a4 a5 a6 a7 a8 a9 a10 a11 a12 := by
  intro m
  induction m with
  | zero =>
    intro k a6 hk h
    obtain ⟨a', ha', D⟩ := bq_i137 (mc := mc) (ms := ms) (kc := kc) (ks := ks) (f := f) (go := go) (a1 := a1) (a2 := a2) (a3 := a3) (a4 := a4) (a5 := a5) (a6 := a6) (a7 := a7) (a8 := a8) (a9 := a9) (a10 := a10) (a11 := a11) 2 0 a12 (by omega) (fun j hj => absurd hj (by omega))
    exact ⟨a6, a', fun j hj => h j (by omega), ha', fun post hp => ⟨1, pk_le 4 k (fun _ => D post hp) (fun z => absurd z (by omega))⟩⟩
  | succ m ih =>
    intro k a6 hk h
    obtain ⟨a, a', ha, ha', D⟩ := ih (k + 1) (upd a6 k (-1)) (by omega) (fun j hj => by
      by_cases e : j = k
      · rw [e, pk_us]
      · rw [pk_un e]; exact h j (by omega))
    refine ⟨a, a', ha, ha', fun post hp => ?_⟩
    obtain ⟨fu, hw⟩ := D post hp
    exact ⟨fu + 1, pk_le 4 k (fun z => absurd z (by omega)) (fun _ => ⟨pk_in k 4 (by omega), nm_r (by rw [nI_clamp (show k < 2 ^ 31 by omega)]) (nm_r (nI_1 k) hw)⟩)⟩
theorem bq_init {len : Nat} (h8 : 8 ≤ len) (h60 : len ≤ 60) : ∃ u' : St2, bq_I len u' ∧ bq_T u' = 0 ∧ ∀ post : St2 → Prop, post u' → wpX_init post 12 156 (0, 0) (nI len) := by
  obtain ⟨a, a', ha, ha', D⟩ := bq_i117 (mc := 12) (ms := 156) (kc := 12) (ks := 156) (f := nI len) (go := 0) (a1 := fun _ => 0) (a2 := fun _ => 0) (a3 := fun _ => 0) (a4 := fun _ => 0) (a5 := fun _ => 0) (a7 := fun _ => 0) (a8 := fun _ => 0) (a9 := fun _ => 0) (a10 := fun _ => 0) (a11 := fun _ => 0) (a12 := fun _ => 0) 4 0 (fun _ => 0) (by omega) (fun j hj => absurd hj (by omega))
  refine ⟨(nI len, 0, fun _ => 0, fun _ => 0, fun _ => 0, fun _ => 0, fun _ => 0, a, fun _ => 0, fun _ => 0, fun _ => 0, fun _ => 0, fun _ => 0, a'), ⟨rfl, h8, h60, ?_, ?_, ?_, ?_, ?_⟩, ?_, fun post hp => ?_⟩
  · intro b hb
    exact ⟨0, 0, fun _ => 0, by omega, rfl, rfl, rfl, by show 0 + 4 * 0 ≤ len + 4; omega, fun i hi => absurd hi (by omega)⟩
  · intro j
    show ¬ (0 : Int32) < 0
    decide
  · intro b hb
    exact Or.inr (Or.inl (ha b hb))
  · intro b hb
    exact ⟨0, by omega, rfl⟩
  · intro b hb
    exact ⟨0, by omega, rfl⟩
  · show (0 : Int32) + (bq_h (a' 0) + bq_h (a' 1)) + (0 + 0 + 0 + 0) = 0
    rw [ha' 0 (by omega), ha' 1 (by omega), bq_h_n (by decide)]
    decide
  · unfold wpX_init
    dsimp only
    refine ⟨by decide, by decide, by decide, by decide, by decide, by decide, by decide, by decide, by decide, by decide, by decide, by decide, by decide, by decide, by decide, by decide, by decide, by decide, by decide, by decide, by decide, by decide, by decide, by decide, pk_le 8 len (fun _ => ?_) (fun z => absurd z (by omega))⟩
    unfold wX_init_101
    exact pk_le len 60 (fun _ => D post hp) (fun z => absurd z (by omega))
end
section
theorem bq_439 {f go : Int32} {a1 a2 a3 a4 a5 a6 a7 a8 a9 a10 a11 a12 : Nat → Int32} {len L k kc ks : Nat} {xs : Nat → Int32} {post : Int32 → Prop} {J : Int32 → Int32 → Int32 → Int32 → Int32 → (Nat → Int32) → (Nat → Int32) → (Nat → Int32) → (Nat → Int32) → (Nat → Int32) → (Nat → Int32) → (Nat → Int32) → (Nat → Int32) → (Nat → Int32) → (Nat → Int32) → (Nat → Int32) → (Nat → Int32) → Int32 → Int32 → (Nat → Int32) → (Nat → Int32) → (Nat → Int32) → (Nat → Int32) → (Nat → Int32) → (Nat → Int32) → (Nat → Int32) → (Nat → Int32) → (Nat → Int32) → (Nat → Int32) → (Nat → Int32) → (Nat → Int32) → Prop}
    {x1 x4 x5 x10 z0 z1 : Int32} (I : bq_I len (f, go, a1, a2, a3, a4, a5, a6, a7, a8, a9, a10, a11, a12)) (hT : x4 = ((x5 + go) + (z1 + z0)) + x10) (hJ : J x4 x5 (nI (k + 2)) f go a1 a2 a3 a4 a5 a6 a7 a8 a9 a10 a11 a12 f go a1 a2 a3 a4 a5 a6 a7 a8 a9 a10 a11 a12) :
    wL_law_439 post L xs J x1 x4 x5 (nI k) x10 z0 z1 kc ks f go a1 a2 a3 a4 a5 a6 a7 a8 a9 a10 a11 a12 f go a1 a2 a3 a4 a5 a6 a7 a8 a9 a10 a11 a12 := by
  unfold wL_law_439
  exact nm_e (bq_out (br_t hT (bq_same I (br_f (by decide) (nm_r (nI_add k 2) hJ)))))
theorem bq_378 {f go : Int32} {a1 a2 a3 a4 a5 a6 a7 a8 a9 a10 a11 a12 : Nat → Int32} {len L k kc ks : Nat} {xs : Nat → Int32} {post : Int32 → Prop} {J : Int32 → Int32 → Int32 → Int32 → Int32 → (Nat → Int32) → (Nat → Int32) → (Nat → Int32) → (Nat → Int32) → (Nat → Int32) → (Nat → Int32) → (Nat → Int32) → (Nat → Int32) → (Nat → Int32) → (Nat → Int32) → (Nat → Int32) → (Nat → Int32) → Int32 → Int32 → (Nat → Int32) → (Nat → Int32) → (Nat → Int32) → (Nat → Int32) → (Nat → Int32) → (Nat → Int32) → (Nat → Int32) → (Nat → Int32) → (Nat → Int32) → (Nat → Int32) → (Nat → Int32) → (Nat → Int32) → Prop}
    {x4 x5 : Int32} (I : bq_I len (f, go, a1, a2, a3, a4, a5, a6, a7, a8, a9, a10, a11, a12)) (hT : x4 = x5 + bq_T (f, go, a1, a2, a3, a4, a5, a6, a7, a8, a9, a10, a11, a12)) (hJ : J x4 x5 (nI (k + 2)) f go a1 a2 a3 a4 a5 a6 a7 a8 a9 a10 a11 a12 f go a1 a2 a3 a4 a5 a6 a7 a8 a9 a10 a11 a12) :
    ∀ (m i : Nat), i + m = 4 → ∃ fu, wL_law_378 post L xs J (nI len) x4 x5 (nI k) kc ks f go a1 a2 a3 a4 a5 a6 a7 a8 a9 a10 a11 a12 f go a1 a2 a3 a4 a5 a6 a7 a8 a9 a10 a11 a12 fu (bx_sum a2 i) (nI i) := by
  have hT' : x4 = ((x5 + go) + (bq_h (a12 0) + bq_h (a12 1))) + bx_sum a2 4 := by
    have e : bx_sum a2 4 = 0 + a2 0 + a2 1 + a2 2 + a2 3 := rfl
    have e' : bq_T (f, go, a1, a2, a3, a4, a5, a6, a7, a8, a9, a10, a11, a12) = go + (bq_h (a12 0) + bq_h (a12 1)) + (a2 0 + a2 1 + a2 2 + a2 3) := rfl
    rw [hT, e, e']
    grind
  intro m
  induction m with
  | zero =>
    intro i hi
    have ei : i = 4 := by omega
    subst ei
    refine ⟨1, pk_le 4 4 (fun _ => bq_held (a := 0) (by omega) (br_c (fun z => ?_) (fun z => ?_))) (fun z => absurd z (by omega))⟩
    · rw [bq_h_n z] at hT'
      unfold wL_law_426
      refine bq_held (a := 1) (by omega) (br_c (fun y => ?_) (fun y => ?_))
      · rw [bq_h_n y] at hT'
        exact bq_439 I hT' hJ
      · rw [bq_h_p y] at hT'
        exact bq_439 I hT' hJ
    · rw [bq_h_p z] at hT'
      unfold wL_law_426
      refine bq_held (a := 1) (by omega) (br_c (fun y => ?_) (fun y => ?_))
      · rw [bq_h_n y] at hT'
        exact bq_439 I hT' hJ
      · rw [bq_h_p y] at hT'
        exact bq_439 I hT' hJ
  | succ m ih =>
    intro i hi
    obtain ⟨fu, hw⟩ := ih (i + 1) (by omega)
    exact ⟨fu + 1, pk_le 4 i (fun z => absurd z (by omega)) (fun _ => bq_belt I (show i < 4 by omega) (br_f (by decide) (bq_items (show i < 4 by omega) (nm_e (nm_r (nI_1 i) hw)))))⟩
theorem bq_335 {f go : Int32} {a1 a2 a3 a4 a5 a6 a7 a8 a9 a10 a11 a12 : Nat → Int32} {len L k kc ks N M : Nat} {xs : Nat → Int32} {post : Int32 → Prop} {x4 x5 : Int32} (I : bq_I len (f, go, a1, a2, a3, a4, a5, a6, a7, a8, a9, a10, a11, a12)) (hT : x4 = x5 + bq_T (f, go, a1, a2, a3, a4, a5, a6, a7, a8, a9, a10, a11, a12)) (hN : N ≤ 100) (hM : M ≤ 100) :
    ∃ u' : St2, bq_I len u' ∧ x4 = x5 + bq_T u' ∧ ∀ J, (match u' with | (f', go', a1', a2', a3', a4', a5', a6', a7', a8', a9', a10', a11', a12') => J x4 x5 (nI (k + 2)) f' go' a1' a2' a3' a4' a5' a6' a7' a8' a9' a10' a11' a12' f' go' a1' a2' a3' a4' a5' a6' a7' a8' a9' a10' a11' a12') → wL_law_335 post L xs J (nI len) x4 x5 (nI k) (nI N) (nI M) kc ks f go a1 a2 a3 a4 a5 a6 a7 a8 a9 a10 a11 a12 f go a1 a2 a3 a4 a5 a6 a7 a8 a9 a10 a11 a12 := by
  obtain ⟨S, S0, SI, hS⟩ := bq_seq (f, go, a1, a2, a3, a4, a5, a6, a7, a8, a9, a10, a11, a12) I
  have D1 : ∀ post : Int32 → St2 → Prop, post ((S N).2.1 - (S 0).2.1) (S N) → wpX_tick post (S 0) (nI N) := fun post hp => bq_tick hS 0 N (by omega) (by rw [Nat.zero_add]; exact hp)
  have D2 : ∀ post : Int32 → St2 → Prop, post ((S (N + M)).2.1 - (S N).2.1) (S (N + M)) → wpX_tick post (S N) (nI M) := fun post hp => bq_tick hS N M (by omega) hp
  have D3 : ∀ post : Int32 → St2 → Prop, post ((S (N + M)).2.1 - (S 0).2.1) (S (N + M)) → wpX_tick post (S 0) (nI N + nI M) := by
    intro post hp
    rw [nI_add]
    exact bq_tick hS 0 (N + M) (by omega) (by rw [Nat.zero_add]; exact hp)
  obtain ⟨I', T'⟩ := SI (N + M)
  rw [S0] at D1 D3
  generalize S N = v at D1 D2
  generalize S (N + M) = w at D2 D3 I' T'
  refine ⟨w, I', by rw [T']; exact hT, fun J hJ => ?_⟩
  have hT' : x4 = x5 + bq_T w := by rw [T']; exact hT
  obtain ⟨f'', go'', a1'', a2'', a3'', a4'', a5'', a6'', a7'', a8'', a9'', a10'', a11'', a12''⟩ := v
  obtain ⟨f', go', a1', a2', a3', a4', a5', a6', a7', a8', a9', a10', a11', a12'⟩ := w
  unfold wL_law_335
  exact D1 _ (D2 _ (D3 _ (br_t (show go' - go = (go'' - go) + (go' - go'') by grind) (bq_378 I' hT' hJ 4 0 (by omega)))))
def bq_w42 (post : Int32 → Prop) (L : Nat) (xs : Nat → Int32) (x1 : Int32) (kc ks n : Nat) (x4 x5 x6 : Int32) (u : St2) : Prop := match u with
  | (f, go, a1, a2, a3, a4, a5, a6, a7, a8, a9, a10, a11, a12) => wL_law_42 post L xs x1 kc ks n x4 x5 x6 f go a1 a2 a3 a4 a5 a6 a7 a8 a9 a10 a11 a12 f go a1 a2 a3 a4 a5 a6 a7 a8 a9 a10 a11 a12
end
section
theorem bq_c1 {f go : Int32} {a1 a2 a3 a4 a5 a6 a7 a8 a9 a10 a11 a12 : Nat → Int32} {len L k kc ks j b : Nat} {xs : Nat → Int32} {x : Int32} {post : Int32 → Prop} {x4 x5 : Int32} (I : bq_I len (f, go, a1, a2, a3, a4, a5, a6, a7, a8, a9, a10, a11, a12)) (hT : x4 = x5 + bq_T (f, go, a1, a2, a3, a4, a5, a6, a7, a8, a9, a10, a11, a12)) (hk : k + 1 < L) (hL : L ≤ 260) (ej : xs (nI k).toNatClampNeg &&& 15 = nI j) (ex : xs (nI k + 1).toNatClampNeg = x) (eb : x &&& 3 = nI b) (hj : j < 16) (hb : b < 4) (h : j < 6) :
    ∃ (x4' x5' : Int32) (u' : St2), bq_I len u' ∧ x4' = x5' + bq_T u' ∧ ∀ n, bq_w42 post L xs (nI len) kc ks n x4' x5' (nI (k + 2)) u' → wL_law_42 post L xs (nI len) kc ks (n + 1) x4 x5 (nI k) f go a1 a2 a3 a4 a5 a6 a7 a8 a9 a10 a11 a12 f go a1 a2 a3 a4 a5 a6 a7 a8 a9 a10 a11 a12 := by
  obtain ⟨q, hq, eq⟩ := pk_andE (x >>> ((2 : Int32) &&& 31)) (m := 7) 3 (by decide)
  obtain ⟨r, u', I', hr, D⟩ := bq_put I hb hq
  rcases hr with ⟨hr, T⟩ | ⟨hr, T⟩
  · have hT' : x4 = x5 + bq_T u' := by rw [T]; exact hT
    refine ⟨x4, x5, u', I', hT', fun n hw => ?_⟩
    obtain ⟨f', go', a1', a2', a3', a4', a5', a6', a7', a8', a9', a10', a11', a12'⟩ := u'
    refine pk_le L (k + 1) (fun z => absurd z (by omega)) (fun _ => ⟨pk_in k L (by omega), nm_r (e' := nI j) ej ⟨pk_in (k + 1) L (by omega) (nI_1 k), nm_r (e' := x) ex (nm_r (e' := nI b) eb (pk_le 6 j (fun z => absurd z (by omega)) (fun _ => ?_)))⟩⟩) rfl (nI_1 k)
    rw [eq]
    refine D _ (br_t hr ?_)
    unfold wL_law_106
    rw [eq]
    exact D _ (bq_378 I' hT' hw 4 0 (by omega))
  · have hT' : x4 + 1 = x5 + bq_T u' := by rw [T, hT]; grind
    refine ⟨x4 + 1, x5, u', I', hT', fun n hw => ?_⟩
    obtain ⟨f', go', a1', a2', a3', a4', a5', a6', a7', a8', a9', a10', a11', a12'⟩ := u'
    refine pk_le L (k + 1) (fun z => absurd z (by omega)) (fun _ => ⟨pk_in k L (by omega), nm_r (e' := nI j) ej ⟨pk_in (k + 1) L (by omega) (nI_1 k), nm_r (e' := x) ex (nm_r (e' := nI b) eb (pk_le 6 j (fun z => absurd z (by omega)) (fun _ => ?_)))⟩⟩) rfl (nI_1 k)
    rw [eq]
    refine D _ (br_f hr ?_)
    unfold wL_law_106
    rw [eq]
    exact D _ (bq_378 I' hT' hw 4 0 (by omega))
theorem bq_c2 {f go : Int32} {a1 a2 a3 a4 a5 a6 a7 a8 a9 a10 a11 a12 : Nat → Int32} {len L k kc ks j b : Nat} {xs : Nat → Int32} {x : Int32} {post : Int32 → Prop} {x4 x5 : Int32} (I : bq_I len (f, go, a1, a2, a3, a4, a5, a6, a7, a8, a9, a10, a11, a12)) (hT : x4 = x5 + bq_T (f, go, a1, a2, a3, a4, a5, a6, a7, a8, a9, a10, a11, a12)) (hk : k + 1 < L) (hL : L ≤ 260) (ej : xs (nI k).toNatClampNeg &&& 15 = nI j) (ex : xs (nI k + 1).toNatClampNeg = x) (eb : x &&& 3 = nI b) (hj : j < 16) (hb : b < 4) (h : j = 6) :
    ∃ (x4' x5' : Int32) (u' : St2), bq_I len u' ∧ x4' = x5' + bq_T u' ∧ ∀ n, bq_w42 post L xs (nI len) kc ks n x4' x5' (nI (k + 2)) u' → wL_law_42 post L xs (nI len) kc ks (n + 1) x4 x5 (nI k) f go a1 a2 a3 a4 a5 a6 a7 a8 a9 a10 a11 a12 f go a1 a2 a3 a4 a5 a6 a7 a8 a9 a10 a11 a12 := by
  obtain ⟨r, u', I', hr, D⟩ := bq_take I hb
  rcases hr with ⟨hr, T⟩ | ⟨hr, T⟩
  · have hT' : x4 = x5 + bq_T u' := by rw [T]; exact hT
    refine ⟨x4, x5, u', I', hT', fun n hw => ?_⟩
    obtain ⟨f', go', a1', a2', a3', a4', a5', a6', a7', a8', a9', a10', a11', a12'⟩ := u'
    refine pk_le L (k + 1) (fun z => absurd z (by omega)) (fun _ => ⟨pk_in k L (by omega), nm_r (e' := nI j) ej ⟨pk_in (k + 1) L (by omega) (nI_1 k), nm_r (e' := x) ex (nm_r (e' := nI b) eb (pk_le 6 j (fun _ => pk_eq j 6 (fun _ => D _ (br_t hr ?_)) (fun z => absurd h z)) (fun z => absurd z (by omega))))⟩⟩) rfl (nI_1 k)
    unfold wL_law_150
    exact D _ (bq_378 I' hT' hw 4 0 (by omega))
  · have hT' : x4 = (x5 + 1) + bq_T u' := by rw [hT, ← T]; grind
    refine ⟨x4, x5 + 1, u', I', hT', fun n hw => ?_⟩
    obtain ⟨f', go', a1', a2', a3', a4', a5', a6', a7', a8', a9', a10', a11', a12'⟩ := u'
    refine pk_le L (k + 1) (fun z => absurd z (by omega)) (fun _ => ⟨pk_in k L (by omega), nm_r (e' := nI j) ej ⟨pk_in (k + 1) L (by omega) (nI_1 k), nm_r (e' := x) ex (nm_r (e' := nI b) eb (pk_le 6 j (fun _ => pk_eq j 6 (fun _ => D _ (br_f hr ?_)) (fun z => absurd h z)) (fun z => absurd z (by omega))))⟩⟩) rfl (nI_1 k)
    unfold wL_law_150
    exact D _ (bq_378 I' hT' hw 4 0 (by omega))
theorem bq_c3 {f go : Int32} {a1 a2 a3 a4 a5 a6 a7 a8 a9 a10 a11 a12 : Nat → Int32} {len L k kc ks j b : Nat} {xs : Nat → Int32} {x : Int32} {post : Int32 → Prop} {x4 x5 : Int32} (I : bq_I len (f, go, a1, a2, a3, a4, a5, a6, a7, a8, a9, a10, a11, a12)) (hT : x4 = x5 + bq_T (f, go, a1, a2, a3, a4, a5, a6, a7, a8, a9, a10, a11, a12)) (hk : k + 1 < L) (hL : L ≤ 260) (ej : xs (nI k).toNatClampNeg &&& 15 = nI j) (ex : xs (nI k + 1).toNatClampNeg = x) (eb : x &&& 3 = nI b) (hj : j < 16) (hb : b < 4) (h : 7 ≤ j) (h' : j < 9) :
    ∃ (x4' x5' : Int32) (u' : St2), bq_I len u' ∧ x4' = x5' + bq_T u' ∧ ∀ n, bq_w42 post L xs (nI len) kc ks n x4' x5' (nI (k + 2)) u' → wL_law_42 post L xs (nI len) kc ks (n + 1) x4 x5 (nI k) f go a1 a2 a3 a4 a5 a6 a7 a8 a9 a10 a11 a12 f go a1 a2 a3 a4 a5 a6 a7 a8 a9 a10 a11 a12 := by
  obtain ⟨r, u', I', T, D⟩ := bq_lead I hb ((((x >>> ((2 : Int32) &&& 31)) &&& 255) - ((x >>> ((2 : Int32) &&& 31)) &&& 255) / 6 * 6) - 2)
  have hT' : x4 = x5 + bq_T u' := by rw [T]; exact hT
  refine ⟨x4, x5, u', I', hT', fun n hw => ?_⟩
  obtain ⟨f', go', a1', a2', a3', a4', a5', a6', a7', a8', a9', a10', a11', a12'⟩ := u'
  exact pk_le L (k + 1) (fun z => absurd z (by omega)) (fun _ => ⟨pk_in k L (by omega), nm_r (e' := nI j) ej ⟨pk_in (k + 1) L (by omega) (nI_1 k), nm_r (e' := x) ex (nm_r (e' := nI b) eb (pk_le 6 j (fun _ => pk_eq j 6 (fun z => absurd z (by omega)) (fun _ => pk_le 9 j (fun z => absurd z (by omega)) (fun _ => ⟨by decide, D _ ⟨by decide, D _ (bq_378 I' hT' hw 4 0 (by omega))⟩⟩))) (fun z => absurd z (by omega))))⟩⟩) rfl (nI_1 k)
theorem bq_c4 {f go : Int32} {a1 a2 a3 a4 a5 a6 a7 a8 a9 a10 a11 a12 : Nat → Int32} {len L k kc ks j b : Nat} {xs : Nat → Int32} {x : Int32} {post : Int32 → Prop} {x4 x5 : Int32} (I : bq_I len (f, go, a1, a2, a3, a4, a5, a6, a7, a8, a9, a10, a11, a12)) (hT : x4 = x5 + bq_T (f, go, a1, a2, a3, a4, a5, a6, a7, a8, a9, a10, a11, a12)) (hk : k + 1 < L) (hL : L ≤ 260) (ej : xs (nI k).toNatClampNeg &&& 15 = nI j) (ex : xs (nI k + 1).toNatClampNeg = x) (eb : x &&& 3 = nI b) (hj : j < 16) (hb : b < 4) (h : 9 ≤ j) (h' : j < 11) :
    ∃ (x4' x5' : Int32) (u' : St2), bq_I len u' ∧ x4' = x5' + bq_T u' ∧ ∀ n, bq_w42 post L xs (nI len) kc ks n x4' x5' (nI (k + 2)) u' → wL_law_42 post L xs (nI len) kc ks (n + 1) x4 x5 (nI k) f go a1 a2 a3 a4 a5 a6 a7 a8 a9 a10 a11 a12 f go a1 a2 a3 a4 a5 a6 a7 a8 a9 a10 a11 a12 := by
  have ea : nI b &&& 1 = nI (b % 2) := pk_andN (by omega) 1 (by decide)
  obtain ⟨r, u', I', T, D⟩ := bq_armc I (a := b % 2) (by omega) (x >>> ((2 : Int32) &&& 31)) ((x >>> ((6 : Int32) &&& 31)) &&& 31) (x >>> ((11 : Int32) &&& 31))
  have hT' : x4 = x5 + bq_T u' := by rw [T]; exact hT
  refine ⟨x4, x5, u', I', hT', fun n hw => ?_⟩
  obtain ⟨f', go', a1', a2', a3', a4', a5', a6', a7', a8', a9', a10', a11', a12'⟩ := u'
  refine pk_le L (k + 1) (fun z => absurd z (by omega)) (fun _ => ⟨pk_in k L (by omega), nm_r (e' := nI j) ej ⟨pk_in (k + 1) L (by omega) (nI_1 k), nm_r (e' := x) ex (nm_r (e' := nI b) eb (pk_le 6 j (fun _ => pk_eq j 6 (fun z => absurd z (by omega)) (fun _ => pk_le 9 j (fun _ => pk_le 11 j (fun z => absurd z (by omega)) (fun _ => ?_)) (fun z => absurd z (by omega)))) (fun z => absurd z (by omega))))⟩⟩) rfl (nI_1 k)
  rw [ea]
  exact D _ (D _ (bq_378 I' hT' hw 4 0 (by omega)))
theorem bq_rem {y : Int32} : ∃ q, q ≤ 100 ∧ (y &&& 255) - (y &&& 255) / 101 * 101 = nI q := by
  obtain ⟨q, hq, eq⟩ := pk_andE y (m := 255) 8 (by decide)
  refine ⟨q % 101, by omega, ?_⟩
  rw [eq]
  exact pk_rem (d := 101) (by omega) (by omega) (by omega)
theorem bq_c5 {f go : Int32} {a1 a2 a3 a4 a5 a6 a7 a8 a9 a10 a11 a12 : Nat → Int32} {len L k kc ks j b : Nat} {xs : Nat → Int32} {x : Int32} {post : Int32 → Prop} {x4 x5 : Int32} (I : bq_I len (f, go, a1, a2, a3, a4, a5, a6, a7, a8, a9, a10, a11, a12)) (hT : x4 = x5 + bq_T (f, go, a1, a2, a3, a4, a5, a6, a7, a8, a9, a10, a11, a12)) (hk : k + 1 < L) (hL : L ≤ 260) (ej : xs (nI k).toNatClampNeg &&& 15 = nI j) (ex : xs (nI k + 1).toNatClampNeg = x) (eb : x &&& 3 = nI b) (hj : j < 16) (hb : b < 4) (h : 11 ≤ j) :
    ∃ (x4' x5' : Int32) (u' : St2), bq_I len u' ∧ x4' = x5' + bq_T u' ∧ ∀ n, bq_w42 post L xs (nI len) kc ks n x4' x5' (nI (k + 2)) u' → wL_law_42 post L xs (nI len) kc ks (n + 1) x4 x5 (nI k) f go a1 a2 a3 a4 a5 a6 a7 a8 a9 a10 a11 a12 f go a1 a2 a3 a4 a5 a6 a7 a8 a9 a10 a11 a12 := by
  by_cases c : x &&& 16777216 = 0
  · obtain ⟨N, hN, eN⟩ := pk_andE (x >>> ((2 : Int32) &&& 31)) (m := 7) 3 (by decide)
    obtain ⟨M, hM, eM⟩ := pk_andE (x >>> ((12 : Int32) &&& 31)) (m := 3) 2 (by decide)
    obtain ⟨u', I', hT', D⟩ := bq_335 (L := L) (k := k) (kc := kc) (ks := ks) (xs := xs) (post := post) (N := N) (M := M) I hT (by omega) (by omega)
    refine ⟨x4, x5, u', I', hT', fun n hw => ?_⟩
    refine pk_le L (k + 1) (fun z => absurd z (by omega)) (fun _ => ⟨pk_in k L (by omega), nm_r (e' := nI j) ej ⟨pk_in (k + 1) L (by omega) (nI_1 k), nm_r (e' := x) ex (nm_r (e' := nI b) eb (pk_le 6 j (fun _ => pk_eq j 6 (fun z => absurd z (by omega)) (fun _ => pk_le 9 j (fun _ => pk_le 11 j (fun _ => br_t c ?_) (fun z => absurd z (by omega))) (fun z => absurd z (by omega)))) (fun z => absurd z (by omega))))⟩⟩) rfl (nI_1 k)
    unfold wL_law_303
    refine br_t c ?_
    rw [eN, eM]
    exact D _ hw
  · obtain ⟨N, hN, eN⟩ := bq_rem (y := x >>> ((2 : Int32) &&& 31))
    obtain ⟨M, hM, eM⟩ := bq_rem (y := x >>> ((12 : Int32) &&& 31))
    obtain ⟨u', I', hT', D⟩ := bq_335 (L := L) (k := k) (kc := kc) (ks := ks) (xs := xs) (post := post) (N := N) (M := M) I hT (by omega) (by omega)
    refine ⟨x4, x5, u', I', hT', fun n hw => ?_⟩
    refine pk_le L (k + 1) (fun z => absurd z (by omega)) (fun _ => ⟨pk_in k L (by omega), nm_r (e' := nI j) ej ⟨pk_in (k + 1) L (by omega) (nI_1 k), nm_r (e' := x) ex (nm_r (e' := nI b) eb (pk_le 6 j (fun _ => pk_eq j 6 (fun z => absurd z (by omega)) (fun _ => pk_le 9 j (fun _ => pk_le 11 j (fun _ => br_f c ⟨by decide, ?_⟩) (fun z => absurd z (by omega))) (fun z => absurd z (by omega)))) (fun z => absurd z (by omega))))⟩⟩) rfl (nI_1 k)
    unfold wL_law_303
    refine br_f c ⟨by decide, ?_⟩
    rw [eN, eM]
    exact D _ hw
end
section
theorem bq_step {f go : Int32} {a1 a2 a3 a4 a5 a6 a7 a8 a9 a10 a11 a12 : Nat → Int32} {len L k kc ks : Nat} {xs : Nat → Int32} {post : Int32 → Prop} {x4 x5 : Int32} (I : bq_I len (f, go, a1, a2, a3, a4, a5, a6, a7, a8, a9, a10, a11, a12)) (hT : x4 = x5 + bq_T (f, go, a1, a2, a3, a4, a5, a6, a7, a8, a9, a10, a11, a12)) (hk : k + 1 < L) (hL : L ≤ 260) :
    ∃ (x4' x5' : Int32) (u' : St2), bq_I len u' ∧ x4' = x5' + bq_T u' ∧ ∀ n, bq_w42 post L xs (nI len) kc ks n x4' x5' (nI (k + 2)) u' → wL_law_42 post L xs (nI len) kc ks (n + 1) x4 x5 (nI k) f go a1 a2 a3 a4 a5 a6 a7 a8 a9 a10 a11 a12 f go a1 a2 a3 a4 a5 a6 a7 a8 a9 a10 a11 a12 := by
  obtain ⟨j, hj, ej⟩ := pk_andE (xs (nI k).toNatClampNeg) (m := 15) 4 (by decide)
  obtain ⟨b, hb, eb⟩ := pk_andE (xs (nI k + 1).toNatClampNeg) (m := 3) 2 (by decide)
  by_cases h1 : j < 6
  · exact bq_c1 I hT hk hL ej rfl eb hj hb h1
  · by_cases h2 : j = 6
    · exact bq_c2 I hT hk hL ej rfl eb hj hb h2
    · by_cases h3 : j < 9
      · exact bq_c3 I hT hk hL ej rfl eb hj hb (by omega) h3
      · by_cases h4 : j < 11
        · exact bq_c4 I hT hk hL ej rfl eb hj hb (by omega) h4
        · exact bq_c5 I hT hk hL ej rfl eb hj hb (by omega)
theorem bq_loop {len L kc ks : Nat} {xs : Nat → Int32} (hL : L ≤ 260) : ∀ (m k : Nat) (u : St2) (x4 x5 : Int32), L ≤ k + m → k ≤ 1000 - m → m ≤ 500 → bq_I len u → x4 = x5 + bq_T u →
    ∃ fu, bq_w42 (fun r => r = 1) L xs (nI len) kc ks fu x4 x5 (nI k) u := by
  intro m
  induction m with
  | zero =>
    intro k u x4 x5 h hk _ I hT
    obtain ⟨f, go, a1, a2, a3, a4, a5, a6, a7, a8, a9, a10, a11, a12⟩ := u
    exact ⟨1, pk_le L (k + 1) (fun _ => rfl) (fun z => absurd z (by omega)) rfl (nI_1 k)⟩
  | succ m ih =>
    intro k u x4 x5 h hk hm I hT
    obtain ⟨f, go, a1, a2, a3, a4, a5, a6, a7, a8, a9, a10, a11, a12⟩ := u
    by_cases hk1 : L ≤ k + 1
    · exact ⟨1, pk_le L (k + 1) (fun _ => rfl) (fun z => absurd z (by omega)) rfl (nI_1 k)⟩
    · obtain ⟨x4', x5', u', I', hT', D⟩ := bq_step (kc := kc) (ks := ks) (xs := xs) (post := fun r => r = 1) I hT (show k + 1 < L by omega) hL
      obtain ⟨fu, hw⟩ := ih (k + 2) u' x4' x5' (by omega) (by omega) (by omega) I' hT'
      exact ⟨fu + 1, D fu hw⟩
theorem i_vc (xs : Nat → Int32) (L : Nat) (hL : L ≤ 260) : wpL_law (fun r => r = 1) L xs := by
  unfold wpL_law
  have main : ∀ r : Int32, ∃ len : Nat, 8 ≤ len ∧ len ≤ 60 ∧ 8 + ((r &&& 2147483647) - (r &&& 2147483647) / 53 * 53) = nI len := by
    intro r
    obtain ⟨t, ht, et⟩ := pk_andE r (m := 2147483647) 31 (by decide)
    refine ⟨8 + t % 53, by omega, by omega, ?_⟩
    rw [et, ← nI_add, ← pk_rem (a := t) (d := 53) ht (by omega) (by omega)]
    rfl
  have fin : ∀ len : Nat, 8 ≤ len → len ≤ 60 → ∃ u : St2, (∀ kc ks : Nat, ∃ fu, bq_w42 (fun r => r = 1) L xs (nI len) kc ks fu 0 0 1 u) ∧ ∀ post : St2 → Prop, post u → wpX_init post 12 156 (0, 0) (nI len) := by
    intro len h8 h60
    obtain ⟨u, I, T, D⟩ := bq_init h8 h60
    exact ⟨u, fun kc ks => bq_loop hL 300 1 u 0 0 (by omega) (by omega) (by omega) I (by rw [T]; decide), D⟩
  refine pk_le L 0 (fun _ => ?_) (fun z => ⟨pk_in 0 L z, ?_⟩)
  · obtain ⟨len, h8, h60, e⟩ := main 0
    obtain ⟨u, W, D⟩ := fin len h8 h60
    obtain ⟨f, go, a1, a2, a3, a4, a5, a6, a7, a8, a9, a10, a11, a12⟩ := u
    exact ⟨by decide, nm_r e ⟨12, 156, by decide, by decide, D _ ⟨by decide, by decide, 12, 156, by decide, by decide, D _ (W _ _)⟩⟩⟩
  · obtain ⟨len, h8, h60, e⟩ := main (xs (0 : Int32).toNatClampNeg)
    obtain ⟨u, W, D⟩ := fin len h8 h60
    obtain ⟨f, go, a1, a2, a3, a4, a5, a6, a7, a8, a9, a10, a11, a12⟩ := u
    exact ⟨by decide, nm_r e ⟨12, 156, by decide, by decide, D _ ⟨by decide, by decide, 12, 156, by decide, by decide, D _ (W _ _)⟩⟩⟩
end
