section
/-! rows of the kit's rows/ (a starting text): PURE-ROWS and BITS, what this claim takes -/
theorem pk_us {f : Nat → Int32} {k : Nat} {x : Int32} : upd f k x k = x := if_pos rfl
theorem pk_un {f : Nat → Int32} {k j : Nat} {x : Int32} (h : j ≠ k) : upd f k x j = f j := if_neg h
theorem pk_sub {a b : Nat} (h : b ≤ a) : nI a - nI b = nI (a - b) := by
  obtain ⟨c, rfl⟩ : ∃ c, a = c + b := ⟨a - b, by omega⟩
  rw [← nI_add, Int32.add_sub_cancel, Nat.add_sub_cancel]
theorem pk_m1 (n : Nat) : nI (n + 1) + (-1) = nI n := by
  rw [← nI_1, Int32.add_assoc, show (1 : Int32) + (-1) = 0 from rfl, Int32.add_zero]
theorem pk_mul (a b : Nat) : nI a * nI b = nI (a * b) := (Int32.ofNat_mul a b).symm
theorem pk_ix (x : Int32) {n : Nat} (hn : n < 2 ^ 31) : x < 0 ∨ nI n ≤ x ∨ ∃ j : Nat, j < n ∧ x = nI j := by
  by_cases h : x < 0
  · exact Or.inl h
  · obtain ⟨j, hj, rfl⟩ := nI_of h
    by_cases h2 : j < n
    · exact Or.inr (Or.inr ⟨j, h2, rfl⟩)
    · exact Or.inr (Or.inl (nI_le (by omega) hj))
theorem pk_le {x y : Int32} {A B : Prop} (a b : Nat) (f : a ≤ b → A) (g : b < a → B) (hx : x = nI a := by rfl) (hy : y = nI b := by rfl) (ha : a < 2 ^ 31 := by omega) (hb : b < 2 ^ 31 := by omega) : (x ≤ y → A) ∧ (¬ x ≤ y → B) := by
  subst hx hy
  rw [nI_leI ha hb]
  exact ⟨f, fun z => g (by omega)⟩
theorem pk_lt {x y : Int32} {A B : Prop} (a b : Nat) (f : a < b → A) (g : b ≤ a → B) (hx : x = nI a := by rfl) (hy : y = nI b := by rfl) (ha : a < 2 ^ 31 := by omega) (hb : b < 2 ^ 31 := by omega) : (x < y → A) ∧ (¬ x < y → B) := by
  subst hx hy
  rw [nI_ltI ha hb]
  exact ⟨f, fun z => g (by omega)⟩
theorem pk_eq {x y : Int32} {A B : Prop} (a b : Nat) (f : a = b → A) (g : a ≠ b → B) (hx : x = nI a := by rfl) (hy : y = nI b := by rfl) (ha : a < 2 ^ 31 := by omega) (hb : b < 2 ^ 31 := by omega) : (x = y → A) ∧ (¬ x = y → B) := by
  subst hx hy
  rw [nI_eq ha hb]
  exact ⟨f, g⟩
theorem pk_in {x : Int32} (n N : Nat) (h : n < N) (hx : x = nI n := by rfl) (hN : N < 2 ^ 31 := by omega) : vp_in x N := by
  subst hx
  exact vp_in_nI h hN
theorem pk_cl {x : Int32} (n : Nat) (hx : x = nI n := by rfl) (h : n < 2 ^ 31 := by omega) : x.toNatClampNeg = n := by
  subst hx
  exact nI_clamp h
def bt (x : Int32) (i : Nat) : Bool := x.toBitVec.getLsbD i
theorem b_ext {x y : Int32} (h : ∀ i, i < 32 → bt x i = bt y i) : x = y := Int32.toBitVec_inj.mp (BitVec.eq_of_getLsbD_eq (fun i hi => h i hi))
theorem b_or (x y : Int32) (i : Nat) : bt (x ||| y) i = (bt x i || bt y i) := by unfold bt; rw [Int32.toBitVec_or, BitVec.getLsbD_or]
theorem b_and (x y : Int32) (i : Nat) : bt (x &&& y) i = (bt x i && bt y i) := by unfold bt; rw [Int32.toBitVec_and, BitVec.getLsbD_and]
theorem b_big {x : Int32} {i : Nat} (h : 32 ≤ i) : bt x i = false := BitVec.getLsbD_of_ge _ _ h
theorem b_0 (i : Nat) : bt 0 i = false := BitVec.getLsbD_zero
end
section
/-! plain facts: bits, 0/1 ints, counts, the invariants -/
theorem sg_b1 : ∀ c, c < 32 → ∀ d, d < 32 → bt ((1 : Int32) <<< (nI c &&& 31)) d = decide (d = c) := by decide +kernel
theorem sg_ob {x : Int32} {c d : Nat} (hc : c < 32) (hd : d < 32) : bt (x ||| ((1 : Int32) <<< (nI c &&& 31))) d = (bt x d || decide (d = c)) := by
  rw [b_or, sg_b1 c hc d hd]
theorem sg_has {x : Int32} {c : Nat} (hc : c < 32) : (x &&& ((1 : Int32) <<< (nI c &&& 31))) = 0 ↔ bt x c = false := by
  constructor
  · intro h
    have e : bt (x &&& ((1 : Int32) <<< (nI c &&& 31))) c = bt 0 c := by rw [h]
    rw [b_and, sg_b1 c hc c hc, b_0] at e
    simpa using e
  · intro h
    apply b_ext
    intro i hi
    rw [b_and, sg_b1 c hc i hi, b_0]
    by_cases e : i = c
    · subst e; simp [h]
    · simp [e]
theorem sg_and0 {x y : Int32} : (x &&& y) = 0 ↔ ∀ d, d < 32 → bt x d = true → bt y d = false := by
  constructor
  · intro h d hd hx
    have e : bt (x &&& y) d = bt 0 d := by rw [h]
    rw [b_and, b_0, hx] at e
    simpa using e
  · intro h
    apply b_ext
    intro i hi
    rw [b_and, b_0]
    cases hx : bt x i with
    | false => rfl
    | true => rw [h i hi hx]; rfl
def sg_i (b : Bool) : Int32 := if b = true then 1 else 0
theorem sg_it : sg_i true = 1 := rfl
theorem sg_if : sg_i false = 0 := rfl
theorem sg_i0 {b : Bool} : sg_i b = 0 ↔ b = false := by cases b <;> decide
theorem sg_i1 {b : Bool} : sg_i b = 1 ↔ b = true := by cases b <;> decide
theorem sg_inj {a b : Bool} (h : sg_i a = sg_i b) : a = b := by
  cases a <;> cases b <;> first | rfl | exact absurd h (by decide)
theorem sg_nar (b : Bool) : vp_nar .boolean (sg_i b) = sg_i b := by cases b <;> rfl
theorem sg_n0 : vp_nar .boolean 0 = 0 := rfl
theorem sg_n1 : vp_nar .boolean 1 = 1 := rfl
theorem sg_uu {f : Nat → Int32} {k : Nat} {x y : Int32} : upd (upd f k x) k y = upd f k y := by
  funext j
  by_cases h : j = k
  · subst h; rw [pk_us, pk_us]
  · rw [pk_un h, pk_un h, pk_un h]
theorem sg_us {f : Nat → Int32} {k : Nat} {x : Int32} (h : f k = x) : upd f k x = f := by
  funext j
  by_cases e : j = k
  · subst e; rw [pk_us, h]
  · rw [pk_un e]
theorem sg_ad {c d : Nat} : nI c * 32 + nI d = nI (c * 32 + d) := by
  show nI c * nI 32 + nI d = _
  rw [pk_mul, nI_add]
/-- waits in group g -/
def sg_w (gr cr st : Nat → Int32) (g : Int32) (c : Nat) : Bool := decide (st c = 0) && decide (gr (cr c).toNatClampNeg = g)
/-- merged in group g -/
def sg_mg (gr cr st : Nat → Int32) (g : Int32) (c : Nat) : Bool := decide (st c = 1) && decide (gr (cr c).toNatClampNeg = g)
def sg_cnt (f : Nat → Bool) : Nat → Nat
  | 0 => 0
  | n + 1 => sg_cnt f n + (if f n = true then 1 else 0)
theorem sg_cnt_t {f : Nat → Bool} {n : Nat} (h : f n = true) : sg_cnt f (n + 1) = sg_cnt f n + 1 := by
  show sg_cnt f n + (if f n = true then 1 else 0) = _
  rw [if_pos h]
theorem sg_cnt_f {f : Nat → Bool} {n : Nat} (h : f n = false) : sg_cnt f (n + 1) = sg_cnt f n := by
  show sg_cnt f n + (if f n = true then 1 else 0) = _
  rw [h]; rfl
theorem sg_cnt_le (f : Nat → Bool) (n : Nat) : sg_cnt f n ≤ n := by
  induction n with
  | zero => exact Nat.le_refl 0
  | succ n ih =>
    cases h : f n with
    | true => rw [sg_cnt_t h]; omega
    | false => rw [sg_cnt_f h]; omega
theorem sg_cnt_mono {f f' : Nat → Bool} (h : ∀ c, f' c = true → f c = true) (n : Nat) : sg_cnt f' n ≤ sg_cnt f n := by
  induction n with
  | zero => exact Nat.le_refl 0
  | succ n ih =>
    cases h1 : f' n with
    | true => rw [sg_cnt_t h1, sg_cnt_t (h n h1)]; omega
    | false =>
      rw [sg_cnt_f h1]
      cases h2 : f n with
      | true => rw [sg_cnt_t h2]; omega
      | false => rw [sg_cnt_f h2]; omega
theorem sg_cnt_lt {f f' : Nat → Bool} (h : ∀ c, f' c = true → f c = true) {o : Nat} (h1 : f o = true) (h0 : f' o = false) (n : Nat) (ho : o < n) : sg_cnt f' n < sg_cnt f n := by
  induction n with
  | zero => omega
  | succ n ih =>
    by_cases e : o = n
    · subst e
      rw [sg_cnt_t h1, sg_cnt_f h0]
      have := sg_cnt_mono h o
      omega
    · have ih' := ih (by omega)
      cases h3 : f' n with
      | true => rw [sg_cnt_t h3, sg_cnt_t (h n h3)]; omega
      | false =>
        rw [sg_cnt_f h3]
        cases h2 : f n with
        | true => rw [sg_cnt_t h2]; omega
        | false => rw [sg_cnt_f h2]; omega
/-- the row c of the reference's states is the mask x -/
def sg_row (x : Int32) (sa : Nat → Int32) (c : Nat) : Prop := ∀ d, d < 32 → sa (c * 32 + d) = sg_i (bt x d)
def sg_R (hd rs sa : Nat → Int32) : Prop := ∀ c, c < 32 → hd c ≠ 0 → sg_row (rs c) sa c
def sg_via (np an : Nat → Int32) (c d : Nat) : Bool := decide (¬ np c < 0) && (decide (np c = nI d) || bt (an (np c).toNatClampNeg) d)
def sg_pok (np : Nat → Int32) (c : Nat) : Prop := np c < 0 ∨ ∃ p, p < c ∧ np c = nI p
def sg_Nd (m : Nat) (np nq dn an : Nat → Int32) : Prop := ∀ c, c < m → sg_pok np c ∧ sg_pok nq c ∧ (∀ d, d < 32 → bt (dn c) d = (decide (np c = nI d) || decide (nq c = nI d))) ∧ (∀ d, d < 32 → bt (an c) d = (sg_via np an c d || sg_via nq an c d))
def sg_G (R : Nat) (gr : Nat → Int32) : Prop := (∀ r, r < R → ∃ g, g < R ∧ gr r = nI g) ∧ (∀ r, R ≤ r → r < 8 → gr r = nI r)
def sg_C (R m : Nat) (cr : Nat → Int32) : Prop := ∀ c, c < m → ∃ r, r < R ∧ cr c = nI r
def sg_Z (m : Nat) (dn an : Nat → Int32) : Prop := ∀ c, m ≤ c → dn c = 0 ∧ an c = 0
/-- what settling doesn't change -/
def sg_S (R m : Nat) (gr cr np nq dn an : Nat → Int32) : Prop := R ≤ 8 ∧ m ≤ 32 ∧ sg_G R gr ∧ sg_C R m cr ∧ sg_Nd m np nq dn an ∧ sg_Z m dn an
theorem sg_vlt {np an : Nat → Int32} {c d : Nat} (hc : c < 32) (hd : d < 32) (hp : sg_pok np c) (ih : ∀ p, p < c → bt (an p) d = true → d < p) (h : sg_via np an c d = true) : d < c := by
  unfold sg_via at h
  rw [Bool.and_eq_true, decide_eq_true_eq, Bool.or_eq_true, decide_eq_true_eq] at h
  rcases hp with h0 | ⟨p, hpc, e⟩
  · exact absurd h0 h.1
  · rw [e, nI_clamp (by omega), nI_eq (by omega) (by omega)] at h
    rcases h.2 with h2 | h2
    · omega
    · have := ih p hpc h2; omega
theorem sg_anlt {m : Nat} {np nq dn an : Nat → Int32} (hm : m ≤ 32) (h : sg_Nd m np nq dn an) {d : Nat} (hd : d < 32) : ∀ c, c < m → bt (an c) d = true → d < c := by
  intro c
  induction c using Nat.strongRecOn with
  | _ c ih =>
    intro hc hb
    obtain ⟨hp, hq, _, ha⟩ := h c hc
    rw [ha d hd, Bool.or_eq_true] at hb
    rcases hb with hb | hb
    · exact sg_vlt (by omega) hd hp (fun p hp' => ih p hp' (by omega)) hb
    · exact sg_vlt (by omega) hd hq (fun p hp' => ih p hp' (by omega)) hb
theorem sg_R0 {hd hd' rs sa : Nat → Int32} (h : sg_R hd rs sa) (h' : ∀ c, hd' c = hd c ∨ hd' c = 0) : sg_R hd' rs sa := by
  intro c hc hn
  rcases h' c with e | e
  · exact h c hc (by rw [← e]; exact hn)
  · exact absurd e hn
theorem sg_u0 {hd : Nat → Int32} {k : Nat} : ∀ c, upd hd k 0 c = hd c ∨ upd hd k 0 c = 0 := by
  intro c
  by_cases e : c = k
  · subst e; exact Or.inr pk_us
  · exact Or.inl (pk_un e)
theorem sg_t0 {a b c : Nat → Int32} (h : ∀ j, b j = a j ∨ b j = 0) (h' : ∀ j, c j = b j ∨ c j = 0) : ∀ j, c j = a j ∨ c j = 0 := by
  intro j
  rcases h' j with e | e
  · rcases h j with e2 | e2
    · exact Or.inl (e.trans e2)
    · exact Or.inr (e.trans e2)
  · exact Or.inr e
theorem sg_cr8 {R m : Nat} {cr : Nat → Int32} (hR : R ≤ 8) (h : sg_C R m cr) {c : Nat} (hc : c < m) : vp_in (cr c) 8 := by
  obtain ⟨r, hr, e⟩ := h c hc
  rw [e]
  exact vp_in_nI (by omega) (by omega)
theorem sg_g8 {R m : Nat} {gr cr : Nat → Int32} (hR : R ≤ 8) (hG : sg_G R gr) (h : sg_C R m cr) {c : Nat} (hc : c < m) : ∃ g, g < 8 ∧ gr (cr c).toNatClampNeg = nI g := by
  obtain ⟨r, hr, e⟩ := h c hc
  obtain ⟨g, hg, e2⟩ := hG.1 r hr
  exact ⟨g, by omega, by rw [e, nI_clamp (by omega)]; exact e2⟩
theorem sg_wst {gr cr st : Nat → Int32} {g : Int32} {c : Nat} (h : sg_w gr cr st g c = true) : st c = 0 ∧ gr (cr c).toNatClampNeg = g := by
  unfold sg_w at h
  rw [Bool.and_eq_true, decide_eq_true_eq, decide_eq_true_eq] at h
  exact h
/-- halving -/
theorem sg_half (w : Int32) : (2 : Int32) ≤ w ↔ (1 : Int32) ≤ w / 2 := by
  have e : (w / 2).toInt = w.toInt.tdiv 2 := by
    have := Int32.toInt_div_of_ne_right w 2 (by decide)
    rw [this]
    rfl
  rw [Int32.le_iff_toInt_le, Int32.le_iff_toInt_le, e, show (2 : Int32).toInt = 2 from by decide, show (1 : Int32).toInt = 1 from by decide]
  rcases Int.le_total 0 w.toInt with h | h
  · rw [Int.tdiv_eq_ediv_of_nonneg h]; omega
  · have h2 : w.toInt.tdiv 2 ≤ 0 := by
      have := Int.tdiv_nonneg (a := -w.toInt) (b := 2) (by omega) (by omega)
      rw [Int.neg_tdiv] at this
      omega
    omega
end
section
/-! the small readers of both sides -/
section
variable {R L m l : Nat} {wl sr iw : Int32} {gr wn cr st dn an hd rs rr ex lg np nq sa ba ad rd rh : Nat → Int32}
theorem sg_xw {post : Int32 → Prop} {c : Nat} {g : Int32} (hc : c < 32) (hr : vp_in (cr c) 8) (h : post (sg_i (sg_w gr cr st g c))) : wpX_waitsIn post (nI R, nI L, wl, nI l, nI m, sr, iw, gr, wn, cr, st, dn, an, hd, rs, rr, ex, lg) (nI c) g := by
  have e : (nI c).toNatClampNeg = c := nI_clamp (by omega)
  have hi : vp_in (nI c) 32 := vp_in_nI hc (by omega)
  unfold wpX_waitsIn
  dsimp only
  rw [e]
  unfold sg_w at h
  refine ⟨hi, br_c (fun hs => ⟨hi, hr, br_c (fun hg => ?_) (fun hg => ?_)⟩) (fun hs => ?_)⟩
  · rw [decide_eq_true hs, decide_eq_true hg] at h; exact h
  · rw [decide_eq_true hs, decide_eq_false hg] at h; exact h
  · rw [decide_eq_false hs] at h; exact h
theorem sg_yw {post : Int32 → Prop} {c : Nat} {g : Int32} (hc : c < 32) (hr : vp_in (cr c) 8) (h : post (sg_i (sg_w gr cr st g c))) : wpY_waitsIn post (nI R, nI L, wl, nI m, sr, nI l, gr, wn, cr, np, nq, st, hd, rr, lg, sa, ba, ad, rd, rh) (nI c) g := by
  have e : (nI c).toNatClampNeg = c := nI_clamp (by omega)
  have hi : vp_in (nI c) 32 := vp_in_nI hc (by omega)
  unfold wpY_waitsIn
  dsimp only
  rw [e]
  unfold sg_w at h
  refine ⟨hi, br_c (fun hs => ⟨hi, hr, br_c (fun hg => ?_) (fun hg => ?_)⟩) (fun hs => ?_)⟩
  · rw [decide_eq_true hs, decide_eq_true hg] at h; exact h
  · rw [decide_eq_true hs, decide_eq_false hg] at h; exact h
  · rw [decide_eq_false hs] at h; exact h
/-- a branch on a 0/1 answer -/
theorem sg_br {A B : Prop} (b : Bool) (f : b = false → A) (g : b = true → B) : (sg_i b = 0 → A) ∧ (¬ sg_i b = 0 → B) := by
  cases b with
  | false => exact br_t rfl (f rfl)
  | true => exact br_f (by decide) (g rfl)
theorem sg_br1 {A B : Prop} (b : Bool) (f : b = true → A) (g : b = false → B) : (sg_i b = 1 → A) ∧ (¬ sg_i b = 1 → B) := by
  cases b with
  | false => exact br_f (by decide) (g rfl)
  | true => exact br_t rfl (f rfl)
theorem sg_xh {post : Int32 → Prop} {c : Nat} {x : Int32} (hc : c < 32) (h : post (sg_i (bt x c))) : wpX_has post (nI R, nI L, wl, nI l, nI m, sr, iw, gr, wn, cr, st, dn, an, hd, rs, rr, ex, lg) x (nI c) := by
  unfold wpX_has
  dsimp only
  refine br_c (fun h0 => ?_) (fun h0 => ?_)
  · rw [(sg_has hc).mp h0] at h; exact h
  · rw [sg_has hc, Bool.not_eq_false] at h0; rw [h0] at h; exact h
theorem sg_xr0 {post : Int32 → Prop} {p : Int32} (hR : R < 2 ^ 31) (hp : ¬ ∃ j, j < R ∧ p = nI j) (h : post 0) : wpX_isRepo post (nI R, nI L, wl, nI l, nI m, sr, iw, gr, wn, cr, st, dn, an, hd, rs, rr, ex, lg) p := by
  unfold wpX_isRepo
  refine br_c (fun _ => h) (fun h0 => ?_)
  obtain ⟨j, hj, rfl⟩ := nI_of h0
  exact br_t (nI_le (Nat.le_of_not_lt fun z => hp ⟨j, z, rfl⟩) hj) h
theorem sg_xr1 {post : Int32 → Prop} {j : Nat} (hR : R < 2 ^ 31) (hj : j < R) (h : post 1) : wpX_isRepo post (nI R, nI L, wl, nI l, nI m, sr, iw, gr, wn, cr, st, dn, an, hd, rs, rr, ex, lg) (nI j) := by
  unfold wpX_isRepo
  exact br_f (nI_pos (by omega)) (br_f (nI_ge hj hR) h)
theorem sg_yr0 {post : Int32 → Prop} {p : Int32} (hR : R < 2 ^ 31) (hp : ¬ ∃ j, j < R ∧ p = nI j) (h : post 0) : wpY_isRepo post (nI R, nI L, wl, nI m, sr, nI l, gr, wn, cr, np, nq, st, hd, rr, lg, sa, ba, ad, rd, rh) p := by
  unfold wpY_isRepo
  refine br_c (fun _ => h) (fun h0 => ?_)
  obtain ⟨j, hj, rfl⟩ := nI_of h0
  exact br_t (nI_le (Nat.le_of_not_lt fun z => hp ⟨j, z, rfl⟩) hj) h
theorem sg_yr1 {post : Int32 → Prop} {j : Nat} (hR : R < 2 ^ 31) (hj : j < R) (h : post 1) : wpY_isRepo post (nI R, nI L, wl, nI m, sr, nI l, gr, wn, cr, np, nq, st, hd, rr, lg, sa, ba, ad, rd, rh) (nI j) := by
  unfold wpY_isRepo
  exact br_f (nI_pos (by omega)) (br_f (nI_ge hj hR) h)
theorem sg_xc0 {post : Int32 → Prop} {p : Int32} (hm : m < 2 ^ 31) (hp : ¬ ∃ j, j < m ∧ p = nI j) (h : post 0) : wpX_isChange post (nI R, nI L, wl, nI l, nI m, sr, iw, gr, wn, cr, st, dn, an, hd, rs, rr, ex, lg) p := by
  unfold wpX_isChange
  refine br_c (fun _ => h) (fun h0 => ?_)
  obtain ⟨j, hj, rfl⟩ := nI_of h0
  exact br_t (nI_le (Nat.le_of_not_lt fun z => hp ⟨j, z, rfl⟩) hj) h
theorem sg_xc1 {post : Int32 → Prop} {j : Nat} (hm : m < 2 ^ 31) (hj : j < m) (h : post 1) : wpX_isChange post (nI R, nI L, wl, nI l, nI m, sr, iw, gr, wn, cr, st, dn, an, hd, rs, rr, ex, lg) (nI j) := by
  unfold wpX_isChange
  exact br_f (nI_pos (by omega)) (br_f (nI_ge hj hm) h)
theorem sg_yc0 {post : Int32 → Prop} {p : Int32} (hm : m < 2 ^ 31) (hp : ¬ ∃ j, j < m ∧ p = nI j) (h : post 0) : wpY_accepted post (nI R, nI L, wl, nI m, sr, nI l, gr, wn, cr, np, nq, st, hd, rr, lg, sa, ba, ad, rd, rh) p := by
  unfold wpY_accepted
  refine br_c (fun _ => h) (fun h0 => ?_)
  obtain ⟨j, hj, rfl⟩ := nI_of h0
  exact br_t (nI_le (Nat.le_of_not_lt fun z => hp ⟨j, z, rfl⟩) hj) h
theorem sg_yc1 {post : Int32 → Prop} {j : Nat} (hm : m < 2 ^ 31) (hj : j < m) (h : post 1) : wpY_accepted post (nI R, nI L, wl, nI m, sr, nI l, gr, wn, cr, np, nq, st, hd, rr, lg, sa, ba, ad, rd, rh) (nI j) := by
  unfold wpY_accepted
  exact br_f (nI_pos (by omega)) (br_f (nI_ge hj hm) h)
/-- the refusal of a change that must wait, as the component asks it -/
theorem sg_xq0 {post : Int32 → Prop} {p : Int32} (hm : m ≤ 32) (hp : ¬ ∃ j, j < m ∧ p = nI j) (h : post (-3)) : wpX_waitingRefusal post (nI R, nI L, wl, nI l, nI m, sr, iw, gr, wn, cr, st, dn, an, hd, rs, rr, ex, lg) p := by
  unfold wpX_waitingRefusal
  dsimp only
  exact sg_xc0 (by omega) hp (br_t rfl h)
theorem sg_xq1 {post : Int32 → Prop} {j : Nat} (hm : m ≤ 32) (hj : j < m) (h1 : st j = 0 → post 0) (h2 : ¬ st j = 0 → post (-10)) : wpX_waitingRefusal post (nI R, nI L, wl, nI l, nI m, sr, iw, gr, wn, cr, st, dn, an, hd, rs, rr, ex, lg) (nI j) := by
  have e : (nI j).toNatClampNeg = j := nI_clamp (by omega)
  unfold wpX_waitingRefusal
  dsimp only
  refine sg_xc1 (by omega) hj (br_f (by decide) ?_)
  rw [e]
  exact ⟨vp_in_nI (by omega) (by omega), br_c h1 h2⟩
/-- who holds the run: the first of both sides -/
theorem sg_hl {p : Int32} (hm : m ≤ 32) : ∀ k i, i + k = m → ∃ r, ((¬ (0 : Int32) ≤ r) ∨ ∃ c, c < m ∧ r = nI c ∧ hd c = p) ∧ (∀ post : Int32 → Prop, post r → wX_holder_18 post p (nI R) (nI L) wl (nI l) (nI m) sr iw gr wn cr st dn an hd rs rr ex lg (k + 1) (nI i)) ∧ (∀ post : Int32 → Prop, post r → wY_holder_18 post p (nI R) (nI L) wl (nI m) sr (nI l) gr wn cr np nq st hd rr lg sa ba ad rd rh (k + 1) (nI i)) := by
  intro k
  induction k with
  | zero =>
    intro i hi
    have h : nI m ≤ nI i := nI_le (by omega) (by omega)
    exact ⟨-8, Or.inl (by decide), fun _ hp => br_t h hp, fun _ hp => br_t h hp⟩
  | succ k ih =>
    intro i hi
    have h : ¬ nI m ≤ nI i := nI_ge (by omega) (by omega)
    have hv : vp_in (nI i) 32 := vp_in_nI (by omega) (by omega)
    have e : (nI i).toNatClampNeg = i := nI_clamp (by omega)
    by_cases z : hd i = p
    · have z' : hd (nI i).toNatClampNeg = p := by rw [e]; exact z
      exact ⟨nI i, Or.inr ⟨i, by omega, rfl, z⟩, fun _ hp => br_f h ⟨hv, br_t z' hp⟩, fun _ hp => br_f h ⟨hv, br_t z' hp⟩⟩
    · have z' : ¬ hd (nI i).toNatClampNeg = p := by rw [e]; exact z
      obtain ⟨r, hr, hX, hY⟩ := ih (i + 1) (by omega)
      exact ⟨r, hr, fun post hp => br_f h ⟨hv, br_f z' (nm_r (nI_1 i) (hX post hp))⟩, fun post hp => br_f h ⟨hv, br_f z' (nm_r (nI_1 i) (hY post hp))⟩⟩
theorem sg_hold (p : Int32) (hm : m ≤ 32) : ∃ r, ((¬ (0 : Int32) ≤ r) ∨ ∃ c, c < m ∧ r = nI c ∧ hd c ≠ 0) ∧ (∀ post : Int32 → Prop, post r → wpX_holder post (nI R, nI L, wl, nI l, nI m, sr, iw, gr, wn, cr, st, dn, an, hd, rs, rr, ex, lg) p) ∧ (∀ post : Int32 → Prop, post r → wpY_holder post (nI R, nI L, wl, nI m, sr, nI l, gr, wn, cr, np, nq, st, hd, rr, lg, sa, ba, ad, rd, rh) p) := by
  unfold wpX_holder wpY_holder
  dsimp only
  by_cases h1 : p < 1
  · exact ⟨-7, Or.inl (by decide), fun _ hp => br_t h1 hp, fun _ hp => br_t h1 hp⟩
  · by_cases h2 : p ≤ sr
    · obtain ⟨r, hr, hX, hY⟩ := sg_hl (p := p) (R := R) (L := L) (m := m) (l := l) (wl := wl) (sr := sr) (iw := iw) (gr := gr) (wn := wn) (cr := cr) (st := st) (dn := dn) (an := an) (hd := hd) (rs := rs) (rr := rr) (ex := ex) (lg := lg) (np := np) (nq := nq) (sa := sa) (ba := ba) (ad := ad) (rd := rd) (rh := rh) hm m 0 (by omega)
      refine ⟨r, ?_, fun post hp => br_f h1 (br_t h2 ⟨m + 1, hX post hp⟩), fun post hp => br_f h1 (br_t h2 ⟨m + 1, hY post hp⟩)⟩
      rcases hr with hr | ⟨c, hc, e, e2⟩
      · exact Or.inl hr
      · refine Or.inr ⟨c, hc, e, ?_⟩
        rw [e2]
        intro e3
        rw [e3] at h1
        exact h1 (by decide)
    · exact ⟨-7, Or.inl (by decide), fun _ hp => br_f h1 (br_f h2 hp), fun _ hp => br_f h1 (br_f h2 hp)⟩
end
end
section
/-! the reference's needs and both sides' place, against plain values -/
section
variable {R L m l : Nat} {wl sr iw : Int32} {gr wn cr st dn an hd rs rr ex lg np nq sa ba ad rd rh : Nat → Int32}
theorem sg_via0 {c d : Nat} (h : np c < 0) : sg_via np an c d = false := by
  unfold sg_via
  rw [decide_eq_false (fun z => z h)]
  rfl
theorem sg_via1 {c d p : Nat} (e : np c = nI p) (hp : p < 2 ^ 31) (hd : d < 2 ^ 31) : sg_via np an c d = (decide (p = d) || bt (an p) d) := by
  unfold sg_via
  rw [e, nI_clamp hp, decide_eq_true (nI_pos hp), Bool.true_and]
  congr 1
  exact decide_eq_decide.mpr (nI_eq hp hd)
theorem sg_n107 {post : Int32 → SY → Prop} {J : Int32 → (Nat → Int32) → (Nat → Int32) → (Nat → Int32) → (Nat → Int32) → (Nat → Int32) → (Nat → Int32) → (Nat → Int32) → (Nat → Int32) → (Nat → Int32) → (Nat → Int32) → (Nat → Int32) → (Nat → Int32) → (Nat → Int32) → (Nat → Int32) → Prop} {x1 x2 : Int32} {i : Nat} (hi : i < 32) (z w : Bool) (h : J (nI (i + 1)) gr wn cr np nq st hd rr lg sa ba ad rd (upd rh i (sg_i (z || w)))) : wY_needs_107 post J x1 x2 (nI i) (sg_i z) (sg_i w) (nI R) (nI L) wl (nI m) sr (nI l) gr wn cr np nq st hd rr lg sa ba ad rd rh := by
  have e : (nI i).toNatClampNeg = i := nI_clamp (by omega)
  have hv : vp_in (nI i) 32 := vp_in_nI hi (by omega)
  unfold wY_needs_107
  simp only [sg_n0, sg_n1, e]
  cases z with
  | true => exact br_f (by decide) ⟨hv, nm_e (nm_r (nI_1 i) h)⟩
  | false =>
    refine br_t rfl ?_
    cases w with
    | true => exact br_f (by decide) ⟨hv, nm_e (nm_r (nI_1 i) h)⟩
    | false => exact br_t rfl ⟨hv, nm_e (nm_r (nI_1 i) h)⟩
theorem sg_n67 {post : Int32 → SY → Prop} {J : Int32 → (Nat → Int32) → (Nat → Int32) → (Nat → Int32) → (Nat → Int32) → (Nat → Int32) → (Nat → Int32) → (Nat → Int32) → (Nat → Int32) → (Nat → Int32) → (Nat → Int32) → (Nat → Int32) → (Nat → Int32) → (Nat → Int32) → (Nat → Int32) → Prop} {x1 : Int32} {i o : Nat} (hi : i < 32) (ho : o < 32) (hq : sg_pok nq i) (hrh : ∀ d, d < i → rh d = sg_i (bt (an d) o)) (z : Bool) (h : J (nI (i + 1)) gr wn cr np nq st hd rr lg sa ba ad rd (upd rh i (sg_i (z || sg_via nq an i o)))) : wY_needs_67 post J x1 (nI o) (nI i) (sg_i z) (nI R) (nI L) wl (nI m) sr (nI l) gr wn cr np nq st hd rr lg sa ba ad rd rh := by
  have e : (nI i).toNatClampNeg = i := nI_clamp (by omega)
  have hv : vp_in (nI i) 32 := vp_in_nI hi (by omega)
  unfold wY_needs_67
  rw [e]
  rcases hq with h0 | ⟨q, hq, eq⟩
  · rw [sg_via0 h0] at h
    exact ⟨hv, br_t h0 (sg_n107 hi z false h)⟩
  · have hq2 : q < 2 ^ 31 := by omega
    rw [sg_via1 eq hq2 (by omega)] at h
    rw [eq, nI_clamp hq2, hrh q hq]
    refine ⟨hv, br_f (nI_pos hq2) ⟨hv, br_c (fun e1 => ?_) (fun e1 => ⟨hv, vp_in_nI (by omega) (by omega), sg_br _ (fun b => ?_) (fun b => ?_)⟩)⟩⟩
    · rw [nI_eq hq2 (by omega)] at e1
      rw [decide_eq_true e1, Bool.true_or] at h
      exact sg_n107 hi z true h
    · rw [nI_eq hq2 (by omega)] at e1
      rw [decide_eq_false e1, b] at h
      exact sg_n107 hi z false h
    · rw [b, Bool.or_true] at h
      exact sg_n107 hi z true h
theorem sg_nl (hm : m ≤ 32) (hN : sg_Nd m np nq dn an) {o c : Nat} (ho : o < m) (hc : c < m) : ∀ k i (rh : Nat → Int32), i + k = m → (∀ d, d < i → rh d = sg_i (bt (an d) o)) → ∃ rh' : Nat → Int32, ∀ post : Int32 → SY → Prop, post (sg_i (bt (an c) o)) (nI R, nI L, wl, nI m, sr, nI l, gr, wn, cr, np, nq, st, hd, rr, lg, sa, ba, ad, rd, rh') → wY_needs_21 post (nI c) (nI o) (nI R) (nI L) wl (nI m) sr (nI l) (k + 1) (nI i) gr wn cr np nq st hd rr lg sa ba ad rd rh := by
  intro k
  induction k with
  | zero =>
    intro i rh hi hrh
    refine ⟨rh, fun post hp => ?_⟩
    rw [wY_needs_21]
    refine br_t (nI_le (by omega) (by omega)) ⟨vp_in_nI (by omega) (by omega), ?_⟩
    rw [nI_clamp (show c < 2 ^ 31 by omega), hrh c (by omega)]
    refine sg_br _ (fun b => ?_) (fun b => ?_)
    · rw [b] at hp; exact hp
    · rw [b] at hp; exact hp
  | succ k ih =>
    intro i rh hi hrh
    obtain ⟨hp, hq, _, ha⟩ := hN i (by omega)
    have e : (nI i).toNatClampNeg = i := nI_clamp (by omega)
    have hv : vp_in (nI i) 32 := vp_in_nI (by omega) (by omega)
    have h32 : i < 32 := by omega
    have ho32 : o < 32 := by omega
    have hlt : ¬ nI m ≤ nI i := nI_ge (by omega) (by omega)
    obtain ⟨rh', hk⟩ := ih (i + 1) (upd rh i (sg_i (bt (an i) o))) (by omega) (by
      intro d hd
      by_cases ed : d = i
      · subst ed; rw [pk_us]
      · rw [pk_un ed]; exact hrh d (by omega))
    refine ⟨rh', fun post hpost => ?_⟩
    have h := hk post hpost
    rw [ha o ho32] at h
    rw [wY_needs_21]
    refine br_f hlt ?_
    rw [e]
    rcases hp with h0 | ⟨p, hpi, ep⟩
    · rw [sg_via0 h0] at h
      exact ⟨hv, br_t h0 (sg_n67 h32 ho32 hq hrh false h)⟩
    · have hp2 : p < 2 ^ 31 := by omega
      rw [sg_via1 ep hp2 (by omega)] at h
      rw [ep, nI_clamp hp2, hrh p hpi]
      refine ⟨hv, br_f (nI_pos hp2) ⟨hv, br_c (fun e1 => ?_) (fun e1 => ⟨hv, vp_in_nI (by omega) (by omega), sg_br _ (fun b => ?_) (fun b => ?_)⟩)⟩⟩
      · rw [nI_eq hp2 (by omega)] at e1
        rw [decide_eq_true e1, Bool.true_or] at h
        exact sg_n67 h32 ho32 hq hrh true h
      · rw [nI_eq hp2 (by omega)] at e1
        rw [decide_eq_false e1, b] at h
        exact sg_n67 h32 ho32 hq hrh false h
      · rw [b, Bool.or_true] at h
        exact sg_n67 h32 ho32 hq hrh true h
theorem sg_needs (hm : m ≤ 32) (hN : sg_Nd m np nq dn an) {o c : Nat} (ho : o < m) (hc : c < m) : ∃ rh' : Nat → Int32, ∀ post : Int32 → SY → Prop, post (sg_i (bt (an c) o)) (nI R, nI L, wl, nI m, sr, nI l, gr, wn, cr, np, nq, st, hd, rr, lg, sa, ba, ad, rd, rh') → wpY_needs post (nI R, nI L, wl, nI m, sr, nI l, gr, wn, cr, np, nq, st, hd, rr, lg, sa, ba, ad, rd, rh) (nI c) (nI o) := by
  obtain ⟨rh', h⟩ := sg_nl (R := R) (L := L) (m := m) (l := l) (wl := wl) (sr := sr) (gr := gr) (wn := wn) (cr := cr) (st := st) (dn := dn) (an := an) (hd := hd) (rr := rr) (lg := lg) (np := np) (nq := nq) (sa := sa) (ba := ba) (ad := ad) (rd := rd) hm hN ho hc m 0 rh (by omega) (fun d hd => absurd hd (Nat.not_lt_zero d))
  refine ⟨rh', fun post hp => ?_⟩
  unfold wpY_needs
  dsimp only
  exact sg_yc1 (by omega) hc (br_f (by decide) (sg_yc1 (by omega) ho (br_f (by decide) ⟨m + 1, h post hp⟩)))
theorem sg_ypl {post : Int32 → Prop} {c : Nat} (hR : R ≤ 8) (hm : m ≤ 32) (hC : sg_C R m cr) (hc : c < m) : ∀ k i, i + k = c → post (nI (sg_cnt (sg_w gr cr st (gr (cr c).toNatClampNeg)) c)) → wY_place_27 post (nI c) (nI R) (nI L) wl (nI m) sr (nI l) gr wn cr np nq st hd rr lg sa ba ad rd rh (k + 1) (nI (sg_cnt (sg_w gr cr st (gr (cr c).toNatClampNeg)) i)) (nI i) := by
  intro k
  induction k with
  | zero =>
    intro i hi hp
    rw [wY_place_27]
    have e : i = c := by omega
    subst e
    exact br_t (nI_le (by omega) (by omega)) hp
  | succ k ih =>
    intro i hi hp
    have h := ih (i + 1) (by omega) hp
    rw [wY_place_27]
    refine br_f (nI_ge (by omega) (by omega)) ⟨vp_in_nI (by omega) (by omega), ?_⟩
    rw [nI_clamp (show c < 2 ^ 31 by omega)]
    refine ⟨sg_cr8 hR hC hc, sg_yw (by omega) (sg_cr8 hR hC (by omega)) (sg_br _ (fun b => ?_) (fun b => ?_))⟩
    · rw [sg_cnt_f b] at h
      exact nm_r (nI_1 i) h
    · rw [sg_cnt_t b] at h
      exact nm_r (nI_1 _) (nm_r (nI_1 i) h)
theorem sg_yplace {post : Int32 → Prop} {c : Nat} (hR : R ≤ 8) (hm : m ≤ 32) (hC : sg_C R m cr) (hc : c < m) (h0 : st c = 0) (h : post (nI (sg_cnt (sg_w gr cr st (gr (cr c).toNatClampNeg)) c))) : wpY_place post (nI R, nI L, wl, nI m, sr, nI l, gr, wn, cr, np, nq, st, hd, rr, lg, sa, ba, ad, rd, rh) (nI c) := by
  unfold wpY_place
  dsimp only
  refine sg_yc1 (by omega) hc (br_f (by decide) ⟨vp_in_nI (by omega) (by omega), ?_⟩)
  rw [nI_clamp (show c < 2 ^ 31 by omega)]
  exact br_t h0 ⟨c + 1, sg_ypl hR hm hC hc c 0 (by omega) h⟩
theorem sg_xpl {post : Int32 → Prop} {c : Nat} {g : Int32} (hR : R ≤ 8) (hm : m ≤ 32) (hC : sg_C R m cr) (hc : c < m) : ∀ k i, i + k = c → post (nI (sg_cnt (sg_w gr cr st g) c)) → wX_place_30 post (nI c) g (nI R) (nI L) wl (nI l) (nI m) sr iw gr wn cr st dn an hd rs rr ex lg (k + 1) (nI (sg_cnt (sg_w gr cr st g) i)) (nI i) := by
  intro k
  induction k with
  | zero =>
    intro i hi hp
    rw [wX_place_30]
    have e : i = c := by omega
    subst e
    exact br_t (nI_le (by omega) (by omega)) hp
  | succ k ih =>
    intro i hi hp
    have h := ih (i + 1) (by omega) hp
    rw [wX_place_30]
    refine br_f (nI_ge (by omega) (by omega)) (sg_xw (by omega) (sg_cr8 hR hC (by omega)) (sg_br _ (fun b => ?_) (fun b => ?_)))
    · rw [sg_cnt_f b] at h
      exact nm_r (nI_1 i) h
    · rw [sg_cnt_t b] at h
      exact nm_r (nI_1 _) (nm_r (nI_1 i) h)
end
end
section
/-! merged masks, the base of a review, one visit -/
section
variable {R L m l : Nat} {wl sr iw : Int32} {gr wn cr st dn an hd rs rr ex lg np nq sa ba ad rd rh : Nat → Int32}
theorem sg_mil {g : Int32} (hR : R ≤ 8) (hm : m ≤ 32) (hC : sg_C R m cr) : ∀ k i (x : Int32), i + k = m → (∀ d, d < 32 → bt x d = (decide (d < i) && sg_mg gr cr st g d)) → ∃ y : Int32, (∀ d, d < 32 → bt y d = (decide (d < m) && sg_mg gr cr st g d)) ∧ ∀ post : Int32 → Prop, post y → wX_mergedIn_4 post g (nI R) (nI L) wl (nI l) (nI m) sr iw gr wn cr st dn an hd rs rr ex lg (k + 1) x (nI i) := by
  intro k
  induction k with
  | zero =>
    intro i x hi hx
    have e : i = m := by omega
    subst e
    refine ⟨x, hx, fun post h => ?_⟩
    rw [wX_mergedIn_4]
    exact br_t (nI_le (by omega) (by omega)) h
  | succ k ih =>
    intro i x hi hx
    have e : (nI i).toNatClampNeg = i := nI_clamp (by omega)
    have hv : vp_in (nI i) 32 := vp_in_nI (by omega) (by omega)
    have hlt : ¬ nI m ≤ nI i := nI_ge (by omega) (by omega)
    have hr := sg_cr8 hR hC (show i < m by omega)
    cases hf : sg_mg gr cr st g i with
    | false =>
      obtain ⟨y, hy, hk⟩ := ih (i + 1) x (by omega) (by
        intro d hd
        rw [hx d hd]
        by_cases ed : d = i
        · subst ed; rw [hf]; simp
        · rw [decide_eq_decide.mpr (show d < i + 1 ↔ d < i by omega)])
      refine ⟨y, hy, fun post h => ?_⟩
      rw [wX_mergedIn_4]
      refine br_f hlt ?_
      rw [e]
      refine ⟨hv, br_c (fun hs => ⟨hv, hr, br_c (fun hg => ?_) (fun hg => nm_r (nI_1 i) (hk post h))⟩) (fun hs => nm_r (nI_1 i) (hk post h))⟩
      unfold sg_mg at hf
      rw [decide_eq_true hs, decide_eq_true hg] at hf
      exact absurd hf (by decide)
    | true =>
      obtain ⟨y, hy, hk⟩ := ih (i + 1) (x ||| ((1 : Int32) <<< (nI i &&& 31))) (by omega) (by
        intro d hd
        rw [sg_ob (by omega) hd, hx d hd]
        by_cases ed : d = i
        · subst ed; rw [hf]; simp
        · rw [decide_eq_decide.mpr (show d < i + 1 ↔ d < i by omega), decide_eq_false ed, Bool.or_false])
      refine ⟨y, hy, fun post h => ?_⟩
      unfold sg_mg at hf
      rw [Bool.and_eq_true, decide_eq_true_eq, decide_eq_true_eq] at hf
      rw [wX_mergedIn_4]
      refine br_f hlt ?_
      rw [e]
      exact ⟨hv, br_t hf.1 ⟨hv, hr, br_t hf.2 (nm_e (nm_r (nI_1 i) (hk post h)))⟩⟩
theorem sg_mi (g : Int32) (hR : R ≤ 8) (hm : m ≤ 32) (hC : sg_C R m cr) : ∃ y : Int32, (∀ d, d < 32 → bt y d = (decide (d < m) && sg_mg gr cr st g d)) ∧ ∀ post : Int32 → Prop, post y → wpX_mergedIn post (nI R, nI L, wl, nI l, nI m, sr, iw, gr, wn, cr, st, dn, an, hd, rs, rr, ex, lg) g := by
  obtain ⟨y, hy, hk⟩ := sg_mil (R := R) (L := L) (m := m) (l := l) (wl := wl) (sr := sr) (iw := iw) (gr := gr) (wn := wn) (cr := cr) (st := st) (dn := dn) (an := an) (hd := hd) (rs := rs) (rr := rr) (ex := ex) (lg := lg) (g := g) hR hm hC m 0 0 (by omega) (fun d _ => by rw [b_0]; rfl)
  refine ⟨y, hy, fun post h => ?_⟩
  unfold wpX_mergedIn
  dsimp only
  exact ⟨m + 1, hk post h⟩
theorem sg_aml {post : Int32 → Prop} (hm : m ≤ 32) (h : ∀ y : Int32, (∀ d, d < 32 → bt y d = (decide (d < m) && decide (st d = 1))) → post y) : ∀ k i (x : Int32), i + k = m → (∀ d, d < 32 → bt x d = (decide (d < i) && decide (st d = 1))) → wX_allMerged_4 post (nI R) (nI L) wl (nI l) (nI m) sr iw gr wn cr st dn an hd rs rr ex lg (k + 1) x (nI i) := by
  intro k
  induction k with
  | zero =>
    intro i x hi hx
    rw [wX_allMerged_4]
    have e : i = m := by omega
    subst e
    exact br_t (nI_le (by omega) (by omega)) (h x hx)
  | succ k ih =>
    intro i x hi hx
    have e : (nI i).toNatClampNeg = i := nI_clamp (by omega)
    have hv : vp_in (nI i) 32 := vp_in_nI (by omega) (by omega)
    rw [wX_allMerged_4]
    refine br_f (nI_ge (by omega) (by omega)) ?_
    rw [e]
    refine ⟨hv, br_c (fun hs => ?_) (fun hs => ?_)⟩
    · refine nm_e (nm_r (nI_1 i) (ih (i + 1) _ (by omega) (fun d hd => ?_)))
      rw [sg_ob (by omega) hd, hx d hd]
      by_cases ed : d = i
      · subst ed
        simp [hs]
      · rw [decide_eq_decide.mpr (show d < i + 1 ↔ d < i by omega), decide_eq_false ed, Bool.or_false]
    · refine nm_r (nI_1 i) (ih (i + 1) x (by omega) (fun d hd => ?_))
      rw [hx d hd]
      by_cases ed : d = i
      · subst ed; simp [hs]
      · rw [decide_eq_decide.mpr (show d < i + 1 ↔ d < i by omega)]
theorem sg_am {post : Int32 → Prop} (hm : m ≤ 32) (h : ∀ y : Int32, (∀ d, d < 32 → bt y d = (decide (d < m) && decide (st d = 1))) → post y) : wpX_allMerged post (nI R, nI L, wl, nI l, nI m, sr, iw, gr, wn, cr, st, dn, an, hd, rs, rr, ex, lg) := by
  unfold wpX_allMerged
  dsimp only
  exact ⟨m + 1, sg_aml hm h m 0 0 (by omega) (fun d _ => by rw [b_0]; rfl)⟩
/-- the reference's first pass of a review -/
theorem sg_r51 {post : SY → Prop} {J : Int32 → (Nat → Int32) → (Nat → Int32) → (Nat → Int32) → (Nat → Int32) → (Nat → Int32) → (Nat → Int32) → (Nat → Int32) → (Nat → Int32) → (Nat → Int32) → (Nat → Int32) → (Nat → Int32) → (Nat → Int32) → (Nat → Int32) → (Nat → Int32) → Prop} {x1 : Int32} {i : Nat} (hi : i < 32) (b : Bool) (h : J (nI (i + 1)) gr wn cr np nq st hd rr lg sa (upd ba i (sg_i b)) (upd ad i 0) (upd rd i 0) rh) : wY_review_51 post J x1 (nI i) (sg_i b) (nI i) (nI R) (nI L) wl (nI m) sr (nI l) gr wn cr np nq st hd rr lg sa ba ad rd rh := by
  have e : (nI i).toNatClampNeg = i := nI_clamp (by omega)
  have hv : vp_in (nI i) 32 := vp_in_nI hi (by omega)
  unfold wY_review_51
  rw [sg_nar, sg_n0, e]
  exact ⟨hv, nm_e ⟨hv, nm_e ⟨hv, nm_e (nm_r (nI_1 i) h)⟩⟩⟩
theorem sg_r2 {g : Int32} (hR : R ≤ 8) (hm : m ≤ 32) (hC : sg_C R m cr) : ∀ k i (ba ad rd : Nat → Int32), i + k = 32 → (∀ d, d < i → ba d = sg_i (decide (d < m) && sg_mg gr cr st g d) ∧ ad d = 0 ∧ rd d = 0) → ∃ ba' ad' rd' : Nat → Int32, (∀ d, d < 32 → ba' d = sg_i (decide (d < m) && sg_mg gr cr st g d) ∧ ad' d = 0 ∧ rd' d = 0) ∧ ∀ post : SY → Prop, (∃ n, wY_review_74 post g n 0 (nI R) (nI L) wl (nI m) sr (nI l) gr wn cr np nq st hd rr lg sa ba' ad' rd' rh) → wY_review_2 post g (nI R) (nI L) wl (nI m) sr (nI l) (k + 1) (nI i) gr wn cr np nq st hd rr lg sa ba ad rd rh := by
  intro k
  induction k with
  | zero =>
    intro i ba ad rd hi h
    refine ⟨ba, ad, rd, fun d hd => h d (by omega), fun post hp => ?_⟩
    rw [wY_review_2]
    exact br_t (nI_le (a := 32) (by omega) (by omega)) hp
  | succ k ih =>
    intro i ba ad rd hi h
    have e : (nI i).toNatClampNeg = i := nI_clamp (by omega)
    have hv : vp_in (nI i) 32 := vp_in_nI (by omega) (by omega)
    have h32 : i < 32 := by omega
    obtain ⟨ba', ad', rd', hf, hk⟩ := ih (i + 1) (upd ba i (sg_i (decide (i < m) && sg_mg gr cr st g i))) (upd ad i 0) (upd rd i 0) (by omega) (by
      intro d hd
      by_cases ed : d = i
      · subst ed; exact ⟨pk_us, pk_us, pk_us⟩
      · rw [pk_un ed, pk_un ed, pk_un ed]; exact h d (by omega))
    refine ⟨ba', ad', rd', hf, fun post hp => ?_⟩
    have hj := hk post hp
    rw [wY_review_2]
    refine br_f (nI_ge (b := 32) h32 (by omega)) ?_
    rw [e]
    by_cases him : i < m
    · refine br_f (nI_ge him (by omega)) ⟨hv, br_c (fun hs => ⟨hv, sg_cr8 hR hC him, br_c (fun hg => ?_) (fun hg => ?_)⟩) (fun hs => ?_)⟩
      · rw [show (decide (i < m) && sg_mg gr cr st g i) = true from by simp [sg_mg, hs, hg, him]] at hj
        exact sg_r51 h32 true hj
      · rw [show (decide (i < m) && sg_mg gr cr st g i) = false from by simp [sg_mg, hg]] at hj
        exact sg_r51 h32 false hj
      · rw [show (decide (i < m) && sg_mg gr cr st g i) = false from by simp [sg_mg, hs]] at hj
        exact sg_r51 h32 false hj
    · refine br_t (nI_le (by omega) (by omega)) ?_
      rw [show (decide (i < m) && sg_mg gr cr st g i) = false from by simp [him]] at hj
      exact sg_r51 h32 false hj
/-- is a need set aside -/
def sg_ia (st ad np : Nat → Int32) (c : Nat) : Bool := decide (¬ np c < 0) && (decide (st (np c).toNatClampNeg = 0) && decide (¬ ad (np c).toNatClampNeg = 0))
theorem sg_yia {post : Int32 → Prop} {c : Nat} {q : Nat → Int32} (hc : c < 32) (hq : sg_pok q c) (h : post (sg_i (sg_ia st ad q c))) : wpY_isAside post (nI R, nI L, wl, nI m, sr, nI l, gr, wn, cr, np, nq, st, hd, rr, lg, sa, ba, ad, rd, rh) (q c) := by
  unfold wpY_isAside
  dsimp only
  rcases hq with h0 | ⟨p, hp, e⟩
  · unfold sg_ia at h
    rw [decide_eq_false (fun z => z h0), Bool.false_and] at h
    exact br_t h0 h
  · unfold sg_ia at h
    rw [e, nI_clamp (by omega), decide_eq_true (nI_pos (by omega)), Bool.true_and] at h
    rw [e, nI_clamp (by omega)]
    have hv : vp_in (nI p) 32 := vp_in_nI (by omega) (by omega)
    refine br_f (nI_pos (by omega)) ⟨hv, br_c (fun hs => ⟨hv, br_c (fun ha => ?_) (fun ha => ?_)⟩) (fun hs => ?_)⟩
    · rw [decide_eq_true hs, decide_eq_false (fun z => z ha)] at h; exact h
    · rw [decide_eq_true hs, decide_eq_true ha] at h; exact h
    · rw [decide_eq_false hs] at h; exact h
/-- the inner loop of a visit: the row of states becomes the mask e -/
theorem sg_v148 {post : SY → Prop} {J : Int32 → (Nat → Int32) → (Nat → Int32) → (Nat → Int32) → (Nat → Int32) → (Nat → Int32) → (Nat → Int32) → (Nat → Int32) → (Nat → Int32) → (Nat → Int32) → (Nat → Int32) → (Nat → Int32) → (Nat → Int32) → (Nat → Int32) → (Nat → Int32) → Prop} {c d : Nat} (hc : c < 32) (hd2 : d < 32) (b : Bool) (h : J (nI (d + 1)) gr wn cr np nq st hd rr lg (upd sa (c * 32 + d) (sg_i b)) ba ad rd rh) : wY_visit_148 post J (nI c) (nI d) (sg_i b) (nI R) (nI L) wl (nI m) sr (nI l) gr wn cr np nq st hd rr lg sa ba ad rd rh := by
  unfold wY_visit_148
  rw [sg_nar, sg_ad, nI_clamp (by omega)]
  exact ⟨vp_in_nI (by omega) (by omega), nm_e (nm_r (nI_1 d) h)⟩
theorem sg_v123 {post : SY → Prop} {J : Int32 → (Nat → Int32) → (Nat → Int32) → (Nat → Int32) → (Nat → Int32) → (Nat → Int32) → (Nat → Int32) → (Nat → Int32) → (Nat → Int32) → (Nat → Int32) → (Nat → Int32) → (Nat → Int32) → (Nat → Int32) → (Nat → Int32) → (Nat → Int32) → Prop} {c d : Nat} (hc : c < 32) (hd2 : d < 32) (b : Bool) (h1 : sa (c * 32 + d) = sg_i b → J (nI (d + 1)) gr wn cr np nq st hd rr lg (upd sa (c * 32 + d) (sg_i b)) ba ad rd rh) (h2 : ¬ sa (c * 32 + d) = sg_i b → J (nI (d + 1)) gr wn cr np nq st (upd hd c 0) rr lg (upd sa (c * 32 + d) (sg_i b)) ba ad rd rh) : wY_visit_123 post J (nI c) (nI d) (sg_i b) (nI R) (nI L) wl (nI m) sr (nI l) gr wn cr np nq st hd rr lg sa ba ad rd rh := by
  unfold wY_visit_123
  rw [sg_ad, nI_clamp (show c * 32 + d < 2 ^ 31 by omega), nI_clamp (show c < 2 ^ 31 by omega)]
  exact ⟨vp_in_nI (by omega) (by omega), br_c (fun z => sg_v148 hc hd2 b (h1 z)) (fun z => ⟨vp_in_nI hc (by omega), nm_e (sg_v148 hc hd2 b (h2 z))⟩)⟩
theorem sg_v89 {c : Nat} {e : Int32} (hc : c < 32) (he : ∀ d, d < 32 → bt e d = (decide (¬ ba d = 0) || decide (d = c))) (hr : ¬ rd c = 0) : ∀ k d (sa hd : Nat → Int32), d + k = 32 → ∃ sa' hd' : Nat → Int32, (∀ j, d ≤ j → j < 32 → sa' (c * 32 + j) = sg_i (bt e j)) ∧ (∀ j, ¬ (c * 32 + d ≤ j ∧ j < c * 32 + 32) → sa' j = sa j) ∧ ((∀ j, d ≤ j → j < 32 → sa (c * 32 + j) = sg_i (bt e j)) → hd' = hd) ∧ ((¬ ∀ j, d ≤ j → j < 32 → sa (c * 32 + j) = sg_i (bt e j)) → hd' = upd hd c 0) ∧ ∀ post : SY → Prop, wY_visit_167 post (nI c) (nI R) (nI L) wl (nI m) sr (nI l) gr wn cr np nq st hd' rr lg sa' ba ad rd rh → wY_visit_89 post (nI c) (nI R) (nI L) wl (nI m) sr (nI l) (k + 1) (nI d) gr wn cr np nq st hd rr lg sa ba ad rd rh := by
  intro k
  induction k with
  | zero =>
    intro d sa hd hk
    refine ⟨sa, hd, fun j h1 h2 => absurd h1 (by omega), fun j _ => rfl, fun _ => rfl, fun h => absurd (fun j h1 h2 => absurd h1 (by omega)) h, fun post hp => ?_⟩
    rw [wY_visit_89]
    refine ⟨vp_in_nI hc (by omega), ?_⟩
    rw [nI_clamp (show c < 2 ^ 31 by omega)]
    exact br_f hr (br_t (nI_le (a := 32) (by omega) (by omega)) hp)
  | succ k ih =>
    intro d sa hd hk
    have hd32 : d < 32 := by omega
    have ed : (nI d).toNatClampNeg = d := nI_clamp (by omega)
    have ec : (nI c).toNatClampNeg = c := nI_clamp (by omega)
    -- the walk to wY_visit_123 at the mask's bit
    have walk : ∀ post : SY → Prop, ∀ hd : Nat → Int32, wY_visit_123 post (wY_visit_89 post (nI c) (nI R) (nI L) wl (nI m) sr (nI l) (k + 1)) (nI c) (nI d) (sg_i (bt e d)) (nI R) (nI L) wl (nI m) sr (nI l) gr wn cr np nq st hd rr lg sa ba ad rd rh → wY_visit_89 post (nI c) (nI R) (nI L) wl (nI m) sr (nI l) (k + 1 + 1) (nI d) gr wn cr np nq st hd rr lg sa ba ad rd rh := by
      intro post hd h
      rw [he d hd32] at h
      rw [wY_visit_89]
      refine ⟨vp_in_nI hc (by omega), ?_⟩
      rw [ec, ed]
      refine br_f hr (br_f (nI_ge (b := 32) hd32 (by omega)) ⟨vp_in_nI hd32 (by omega), br_c (fun hb => br_c (fun hx => ?_) (fun hx => ?_)) (fun hb => ?_)⟩)
      · rw [nI_eq (by omega) (by omega)] at hx
        rw [decide_eq_true hx, Bool.or_true] at h
        exact h
      · rw [nI_eq (by omega) (by omega)] at hx
        rw [decide_eq_false hx, decide_eq_false (fun z => z hb)] at h
        exact h
      · rw [decide_eq_true hb, Bool.true_or] at h
        exact h
    by_cases hz : sa (c * 32 + d) = sg_i (bt e d)
    · obtain ⟨sa', hd', f1, f2, f3, f4, f5⟩ := ih (d + 1) (upd sa (c * 32 + d) (sg_i (bt e d))) hd (by omega)
      have hiff : (∀ j, d ≤ j → j < 32 → sa (c * 32 + j) = sg_i (bt e j)) ↔ (∀ j, d + 1 ≤ j → j < 32 → upd sa (c * 32 + d) (sg_i (bt e d)) (c * 32 + j) = sg_i (bt e j)) := by
        constructor
        · intro h j h1 h2
          rw [pk_un (by omega)]
          exact h j (by omega) h2
        · intro h j h1 h2
          by_cases ej : j = d
          · subst ej; exact hz
          · have := h j (by omega) h2
            rw [pk_un (by omega)] at this
            exact this
      refine ⟨sa', hd', ?_, ?_, fun h => f3 (hiff.mp h), fun h => f4 (fun z => h (hiff.mpr z)), fun post hp => walk post hd (sg_v123 hc hd32 _ (fun _ => f5 post hp) (fun z => absurd hz z))⟩
      · intro j h1 h2
        by_cases ej : j = d
        · subst ej
          rw [f2 _ (by omega), pk_us]
        · exact f1 j (by omega) h2
      · intro j hj
        rw [f2 j (by omega), pk_un (by omega)]
    · obtain ⟨sa', hd', f1, f2, f3, f4, f5⟩ := ih (d + 1) (upd sa (c * 32 + d) (sg_i (bt e d))) (upd hd c 0) (by omega)
      have hh : hd' = upd hd c 0 := by
        by_cases z : ∀ j, d + 1 ≤ j → j < 32 → upd sa (c * 32 + d) (sg_i (bt e d)) (c * 32 + j) = sg_i (bt e j)
        · exact f3 z
        · rw [f4 z, sg_uu]
      refine ⟨sa', hd', ?_, ?_, fun h => absurd (h d (Nat.le_refl d) hd32) hz, fun _ => hh, fun post hp => walk post hd (sg_v123 hc hd32 _ (fun z => absurd z hz) (fun _ => f5 post hp))⟩
      · intro j h1 h2
        by_cases ej : j = d
        · subst ej
          rw [f2 _ (by omega), pk_us]
        · exact f1 j (by omega) h2
      · intro j hj
        rw [f2 j (by omega), pk_un (by omega)]
end
end
section
/-! a visit of the reference, a review of one change by the component, the review in lockstep -/
section
variable {R L m l : Nat} {wl sr iw : Int32} {gr wn cr st dn an hd rs rr ex lg np nq sa ba ad rd rh : Nat → Int32}
theorem sg_v193a {post : SY → Prop} {c : Nat} (hc : c < 32) (ha : ¬ ad c = 0) (h : post (nI R, nI L, wl, nI m, sr, nI l, gr, wn, cr, np, nq, st, hd, rr, lg, sa, ba, ad, rd, rh)) : wY_visit_193 post (nI c) (nI R) (nI L) wl (nI m) sr (nI l) gr wn cr np nq st hd rr lg sa ba ad rd rh := by
  unfold wY_visit_193
  rw [nI_clamp (show c < 2 ^ 31 by omega)]
  exact ⟨vp_in_nI hc (by omega), br_f ha h⟩
theorem sg_v193b {post : SY → Prop} {c : Nat} (hc : c < 32) (ha : ad c = 0) (h : post (nI R, nI L, wl, nI m, sr, nI l, gr, wn, cr, np, nq, st, hd, rr, lg, sa, upd ba c 1, ad, rd, rh)) : wY_visit_193 post (nI c) (nI R) (nI L) wl (nI m) sr (nI l) gr wn cr np nq st hd rr lg sa ba ad rd rh := by
  unfold wY_visit_193
  rw [nI_clamp (show c < 2 ^ 31 by omega), sg_n1]
  exact ⟨vp_in_nI hc (by omega), br_t ha ⟨vp_in_nI hc (by omega), nm_e h⟩⟩
theorem sg_v69 {post : SY → Prop} {c : Nat} (hc : c < 32) (h : wY_visit_193 post (nI c) (nI R) (nI L) wl (nI m) sr (nI l) gr wn cr np nq st (upd hd c 0) rr lg sa ba ad (upd rd c 0) rh) : wY_visit_69 post (nI c) (nI c) (nI R) (nI L) wl (nI m) sr (nI l) gr wn cr np nq st hd rr lg sa ba ad rd rh := by
  have e : (nI c).toNatClampNeg = c := nI_clamp (by omega)
  have hv : vp_in (nI c) 32 := vp_in_nI hc (by omega)
  unfold wY_visit_69 wY_visit_70
  rw [sg_n0, e]
  refine ⟨hv, nm_e ⟨hv, br_t pk_us ⟨hv, nm_e ⟨1, ?_⟩⟩⟩⟩
  rw [wY_visit_89]
  refine ⟨hv, ?_⟩
  rw [e]
  refine br_t pk_us ?_
  unfold wY_visit_167
  refine ⟨hv, ?_⟩
  rw [e]
  exact br_t pk_us h
theorem sg_v36 {post : SY → Prop} {c g : Nat} (hR : R ≤ 8) (hm : m ≤ 32) (hg : g < 8) (hC : sg_C R m cr) (hc : c < m) (hw : sg_w gr cr st (nI g) c = true) (b : Bool) (h1 : b = true → wY_visit_69 post (nI c) (nI c) (nI R) (nI L) wl (nI m) sr (nI l) gr wn cr np nq st hd rr lg sa ba (upd ad c 1) rd rh) (h2 : b = false → wn g ≤ nI (sg_cnt (sg_w gr cr st (nI g)) c) → wY_visit_69 post (nI c) (nI c) (nI R) (nI L) wl (nI m) sr (nI l) gr wn cr np nq st hd rr lg sa ba (upd ad c 0) rd rh) (h3 : b = false → ¬ wn g ≤ nI (sg_cnt (sg_w gr cr st (nI g)) c) → wY_visit_70 post (nI c) 1 (nI c) (nI R) (nI L) wl (nI m) sr (nI l) gr wn cr np nq st hd rr lg sa ba (upd ad c 0) rd rh) : wY_visit_36 post (nI c) (nI g) (sg_i b) (nI c) (nI R) (nI L) wl (nI m) sr (nI l) gr wn cr np nq st hd rr lg sa ba ad rd rh := by
  have e : (nI c).toNatClampNeg = c := nI_clamp (by omega)
  have eg : (nI g).toNatClampNeg = g := nI_clamp (by omega)
  have hv : vp_in (nI c) 32 := vp_in_nI (by omega) (by omega)
  obtain ⟨hs, hgr⟩ := sg_wst hw
  unfold wY_visit_36
  rw [sg_nar, e]
  refine ⟨hv, nm_e ⟨hv, ?_⟩⟩
  rw [pk_us]
  refine sg_br b (fun hb => ?_) (fun hb => ?_)
  · subst hb
    refine sg_yplace hR hm hC hc hs ?_
    rw [hgr]
    refine ⟨vp_in_nI hg (by omega), ?_⟩
    rw [eg]
    exact br_c (fun z => h2 rfl z) (fun z => h3 rfl z)
  · subst hb
    exact h1 rfl
theorem sg_yv {post : SY → Prop} {c g : Nat} (hm : m ≤ 32) (hN : sg_Nd m np nq dn an) (hc : c < m) (h : wY_visit_36 post (nI c) (nI g) (sg_i (sg_ia st ad np c || sg_ia st ad nq c)) (nI c) (nI R) (nI L) wl (nI m) sr (nI l) gr wn cr np nq st hd rr lg sa ba ad rd rh) : wpY_visit post (nI R, nI L, wl, nI m, sr, nI l, gr, wn, cr, np, nq, st, hd, rr, lg, sa, ba, ad, rd, rh) (nI c) (nI g) := by
  have e : (nI c).toNatClampNeg = c := nI_clamp (by omega)
  have hv : vp_in (nI c) 32 := vp_in_nI (by omega) (by omega)
  obtain ⟨hp, hq, _, _⟩ := hN c hc
  unfold wpY_visit
  dsimp only
  rw [e]
  refine ⟨hv, sg_yia (by omega) hp (sg_br _ (fun b => ⟨hv, sg_yia (by omega) hq (sg_br _ (fun b2 => ?_) (fun b2 => ?_))⟩) (fun b => ?_))⟩
  · rw [b, b2] at h; exact h
  · rw [b, b2] at h; exact h
  · rw [b, Bool.true_or] at h; exact h
theorem sg_v167 {post : SY → Prop} {c : Nat} (hc : c < 32) (ha : ad c = 0) (h1 : ¬ hd c = 0 → rr c = 2 → post (nI R, nI L, wl, nI m, sr, nI l, gr, wn, cr, np, nq, st, hd, rr, lg, sa, ba, upd ad c 1, rd, rh)) (h2 : ¬ (¬ hd c = 0 ∧ rr c = 2) → post (nI R, nI L, wl, nI m, sr, nI l, gr, wn, cr, np, nq, st, hd, rr, lg, sa, upd ba c 1, ad, rd, rh)) : wY_visit_167 post (nI c) (nI R) (nI L) wl (nI m) sr (nI l) gr wn cr np nq st hd rr lg sa ba ad rd rh := by
  have e : (nI c).toNatClampNeg = c := nI_clamp (by omega)
  have hv : vp_in (nI c) 32 := vp_in_nI hc (by omega)
  unfold wY_visit_167
  rw [e, sg_n1]
  refine ⟨hv, br_c (fun z => sg_v193b hc ha (h2 (fun q => q.1 z))) (fun z => ⟨hv, br_c (fun y => ⟨hv, nm_e (sg_v193a hc ?_ (h1 z y))⟩) (fun y => sg_v193b hc ha (h2 (fun q => y q.2)))⟩)⟩
  rw [pk_us]
  decide
theorem sg_v70 {c : Nat} {e : Int32} (hc : c < 32) (ha : ad c = 0) (he : ∀ d, d < 32 → bt e d = (decide (¬ ba d = 0) || decide (d = c))) : ∃ sa' hd' : Nat → Int32, sg_row e sa' c ∧ (∀ j, ¬ (c * 32 ≤ j ∧ j < c * 32 + 32) → sa' j = sa j) ∧ (sg_row e sa c → hd' = hd) ∧ (¬ sg_row e sa c → hd' = upd hd c 0) ∧ ∀ post : SY → Prop, (¬ hd' c = 0 → rr c = 2 → post (nI R, nI L, wl, nI m, sr, nI l, gr, wn, cr, np, nq, st, hd', rr, lg, sa', ba, upd ad c 1, upd rd c 1, rh)) → (¬ (¬ hd' c = 0 ∧ rr c = 2) → post (nI R, nI L, wl, nI m, sr, nI l, gr, wn, cr, np, nq, st, hd', rr, lg, sa', upd ba c 1, ad, upd rd c 1, rh)) → wY_visit_70 post (nI c) 1 (nI c) (nI R) (nI L) wl (nI m) sr (nI l) gr wn cr np nq st hd rr lg sa ba ad rd rh := by
  have ec : (nI c).toNatClampNeg = c := nI_clamp (by omega)
  have hv : vp_in (nI c) 32 := vp_in_nI hc (by omega)
  obtain ⟨sa', hd', f1, f2, f3, f4, f5⟩ := sg_v89 (R := R) (L := L) (m := m) (l := l) (wl := wl) (sr := sr) (gr := gr) (wn := wn) (cr := cr) (st := st) (rr := rr) (lg := lg) (np := np) (nq := nq) (ba := ba) (ad := ad) (rd := (upd rd c 1)) (rh := rh) hc he (by rw [pk_us]; decide) 32 0 sa hd (by omega)
  refine ⟨sa', hd', fun d hd2 => f1 d (Nat.zero_le d) hd2, fun j hj => f2 j (by omega), fun h => f3 (fun j _ hj => h j hj), fun h => f4 (fun z => h (fun j hj => z j (Nat.zero_le j) hj)), fun post h1 h2 => ?_⟩
  have h := f5 post (sg_v167 hc ha h1 h2)
  unfold wY_visit_70
  rw [sg_n1, ec]
  refine ⟨hv, nm_e ⟨hv, br_f ?_ ⟨33, h⟩⟩⟩
  rw [pk_us]
  decide
/-- the component's review of one change -/
theorem sg_xv1 {post : Int32 → SX → Prop} {c : Nat} {x2 x3 z : Int32} (hc : c < 32) (hn : ¬ (dn c &&& x3) = 0) (h : post 1 (nI R, nI L, wl, nI l, nI m, sr, iw, gr, wn, cr, st, dn, an, upd hd c 0, rs, rr, ex, lg)) : wpX_reviewChange post (nI R, nI L, wl, nI l, nI m, sr, iw, gr, wn, cr, st, dn, an, hd, rs, rr, ex, lg) (nI c) x2 x3 z := by
  have e : (nI c).toNatClampNeg = c := nI_clamp (by omega)
  have hv : vp_in (nI c) 32 := vp_in_nI hc (by omega)
  unfold wpX_reviewChange
  dsimp only
  rw [e]
  exact ⟨hv, br_f hn ⟨hv, nm_e h⟩⟩
theorem sg_xv2 {post : Int32 → SX → Prop} {c : Nat} {x2 x3 : Int32} (hc : c < 32) (hn : (dn c &&& x3) = 0) (h : post 0 (nI R, nI L, wl, nI l, nI m, sr, iw, gr, wn, cr, st, dn, an, upd hd c 0, rs, rr, ex, lg)) : wpX_reviewChange post (nI R, nI L, wl, nI l, nI m, sr, iw, gr, wn, cr, st, dn, an, hd, rs, rr, ex, lg) (nI c) x2 x3 0 := by
  have e : (nI c).toNatClampNeg = c := nI_clamp (by omega)
  have hv : vp_in (nI c) 32 := vp_in_nI hc (by omega)
  unfold wpX_reviewChange
  dsimp only
  rw [e]
  exact ⟨hv, br_t hn (br_t rfl ⟨hv, nm_e h⟩)⟩
theorem sg_x82 {post : Int32 → SX → Prop} {c : Nat} (hc : c < 32) (h1 : ¬ hd c = 0 → rr c = 2 → post 1 (nI R, nI L, wl, nI l, nI m, sr, iw, gr, wn, cr, st, dn, an, hd, rs, rr, ex, lg)) (h2 : ¬ (¬ hd c = 0 ∧ rr c = 2) → post 0 (nI R, nI L, wl, nI l, nI m, sr, iw, gr, wn, cr, st, dn, an, hd, rs, rr, ex, lg)) : wX_reviewChange_82 post (nI c) (nI R) (nI L) wl (nI l) (nI m) sr iw gr wn cr st dn an hd rs rr ex lg := by
  have e : (nI c).toNatClampNeg = c := nI_clamp (by omega)
  have hv : vp_in (nI c) 32 := vp_in_nI hc (by omega)
  unfold wX_reviewChange_82
  rw [e]
  exact ⟨hv, br_c (fun z => h2 (fun q => q.1 z)) (fun z => ⟨hv, br_c (fun y => h1 z y) (fun y => h2 (fun q => y q.2))⟩)⟩
theorem sg_xv3 {post : Int32 → SX → Prop} {c : Nat} {x2 x3 : Int32} {hd' : Nat → Int32} (hc : c < 32) (hn : (dn c &&& x3) = 0) (he : rs c = (x2 ||| ((1 : Int32) <<< (nI c &&& 31))) → hd' = hd) (he2 : ¬ rs c = (x2 ||| ((1 : Int32) <<< (nI c &&& 31))) → hd' = upd hd c 0) (h1 : ¬ hd' c = 0 → rr c = 2 → post 1 (nI R, nI L, wl, nI l, nI m, sr, (iw ||| ((1 : Int32) <<< (nI c &&& 31))), gr, wn, cr, st, dn, an, hd', rs, rr, (upd ex c (x2 ||| ((1 : Int32) <<< (nI c &&& 31)))), lg)) (h2 : ¬ (¬ hd' c = 0 ∧ rr c = 2) → post 0 (nI R, nI L, wl, nI l, nI m, sr, (iw ||| ((1 : Int32) <<< (nI c &&& 31))), gr, wn, cr, st, dn, an, hd', rs, rr, (upd ex c (x2 ||| ((1 : Int32) <<< (nI c &&& 31)))), lg)) : wpX_reviewChange post (nI R, nI L, wl, nI l, nI m, sr, iw, gr, wn, cr, st, dn, an, hd, rs, rr, ex, lg) (nI c) x2 x3 1 := by
  have e : (nI c).toNatClampNeg = c := nI_clamp (by omega)
  have hv : vp_in (nI c) 32 := vp_in_nI hc (by omega)
  unfold wpX_reviewChange
  dsimp only
  rw [e]
  refine ⟨hv, br_t hn (br_f (by decide) (nm_e ⟨hv, nm_e (nm_e ⟨hv, hv, ?_⟩)⟩))⟩
  rw [pk_us]
  refine br_c (fun z => ?_) (fun z => ⟨hv, nm_e ?_⟩)
  · have e1 := he z
    subst e1
    exact sg_x82 hc h1 h2
  · have e1 := he2 z
    subst e1
    exact sg_x82 hc h1 h2
/-- set aside: the mask against the two needs -/
theorem sg_ia1 {c : Nat} {x3 : Int32} (hc : c < 32) (hp : sg_pok np c) (ha : ∀ d, d < 32 → ad d = sg_i (bt x3 d)) (hs : ∀ d, d < 32 → bt x3 d = true → st d = 0) : sg_ia st ad np c = true ↔ ∃ p, p < c ∧ np c = nI p ∧ bt x3 p = true := by
  unfold sg_ia
  rw [Bool.and_eq_true, Bool.and_eq_true, decide_eq_true_eq, decide_eq_true_eq, decide_eq_true_eq]
  constructor
  · intro ⟨h1, h2, h3⟩
    rcases hp with h0 | ⟨p, hp, e⟩
    · exact absurd h0 h1
    · rw [e, nI_clamp (by omega), ha p (by omega), sg_i0, Bool.not_eq_false] at h3
      exact ⟨p, hp, e, h3⟩
  · intro ⟨p, hp, e, h⟩
    rw [e, nI_clamp (by omega)]
    refine ⟨nI_pos (by omega), hs p (by omega) h, ?_⟩
    rw [ha p (by omega), h]
    decide
theorem sg_aeq {c : Nat} {x3 : Int32} (hm : m ≤ 32) (hc : c < m) (hN : sg_Nd m np nq dn an) (ha : ∀ d, d < 32 → ad d = sg_i (bt x3 d)) (hs : ∀ d, d < 32 → bt x3 d = true → st d = 0) : (dn c &&& x3) = 0 ↔ (sg_ia st ad np c || sg_ia st ad nq c) = false := by
  obtain ⟨hp, hq, hdn, _⟩ := hN c hc
  rw [sg_and0, Bool.or_eq_false_iff, ← Bool.not_eq_true, ← Bool.not_eq_true, sg_ia1 (by omega) hp ha hs, sg_ia1 (by omega) hq ha hs]
  constructor
  · intro h
    constructor
    · intro ⟨p, hpc, e, hb⟩
      have := h p (by omega) (by rw [hdn p (by omega), decide_eq_true e]; rfl)
      rw [hb] at this
      exact absurd this (by decide)
    · intro ⟨p, hpc, e, hb⟩
      have := h p (by omega) (by rw [hdn p (by omega), decide_eq_true e, Bool.or_true])
      rw [hb] at this
      exact absurd this (by decide)
  · intro ⟨h1, h2⟩ d hd hb
    rw [hdn d hd, Bool.or_eq_true, decide_eq_true_eq, decide_eq_true_eq] at hb
    cases hx : bt x3 d with
    | false => rfl
    | true =>
      exfalso
      rcases hb with e | e
      · rcases hp with h0 | ⟨p, hpc, e2⟩
        · rw [e] at h0; exact nI_pos (by omega) h0
        · rw [e2, nI_eq (by omega) (by omega)] at e
          subst e
          exact h1 ⟨p, hpc, e2, hx⟩
      · rcases hq with h0 | ⟨p, hpc, e2⟩
        · rw [e] at h0; exact nI_pos (by omega) h0
        · rw [e2, nI_eq (by omega) (by omega)] at e
          subst e
          exact h2 ⟨p, hpc, e2, hx⟩
end
end
section
/-! the review in lockstep -/
/-- what both reviews hold before change i -/
def sg_V (gr cr st rs : Nat → Int32) (g : Int32) (m i : Nat) (x2 x3 iw : Int32) (hd ex ba ad rd sa : Nat → Int32) : Prop :=
  (∀ d, d < 32 → ba d = sg_i (bt x2 d)) ∧ (∀ d, d < 32 → ad d = sg_i (bt x3 d)) ∧ (∀ d, d < 32 → bt x3 d = true → d < i ∧ st d = 0) ∧ (∀ d, d < 32 → bt iw d = true → d < i ∧ d < m ∧ sg_w gr cr st g d = true) ∧ (∀ d, d < 32 → rd d = sg_i (bt iw d)) ∧ (∀ d, d < 32 → bt iw d = true → sg_row (ex d) sa d) ∧ sg_R hd rs sa
/-- what a review leaves -/
def sg_P (gr cr st rs : Nat → Int32) (g : Int32) (m : Nat) (iw : Int32) (hd ex rd sa : Nat → Int32) : Prop :=
  (∀ d, d < 32 → bt iw d = true → d < m ∧ sg_w gr cr st g d = true) ∧ (∀ d, d < 32 → rd d = sg_i (bt iw d)) ∧ (∀ d, d < 32 → bt iw d = true → sg_row (ex d) sa d) ∧ sg_R hd rs sa
section
variable {R L m l : Nat} {wl sr iw : Int32} {gr wn cr st dn an hd rs rr ex lg np nq sa ba ad rd rh : Nat → Int32}
theorem sg_Vw {g x2 x3 : Int32} {i : Nat} (h : sg_V gr cr st rs g m i x2 x3 iw hd ex ba ad rd sa) : sg_V gr cr st rs g m (i + 1) x2 x3 iw hd ex ba ad rd sa := by
  obtain ⟨h1, h2, h3, h4, h5, h6, h7⟩ := h
  exact ⟨h1, h2, fun d hd hb => ⟨by have := (h3 d hd hb).1; omega, (h3 d hd hb).2⟩, fun d hd hb => ⟨by have := (h4 d hd hb).1; omega, (h4 d hd hb).2⟩, h5, h6, h7⟩
theorem sg_V1 {g x2 x3 : Int32} {i : Nat} (hi : i < 32) (hw : sg_w gr cr st g i = true) (h : sg_V gr cr st rs g m i x2 x3 iw hd ex ba ad rd sa) : sg_V gr cr st rs g m (i + 1) x2 (x3 ||| ((1 : Int32) <<< (nI i &&& 31))) iw (upd hd i 0) ex ba (upd ad i 1) (upd rd i 0) sa := by
  obtain ⟨h1, h2, h3, h4, h5, h6, h7⟩ := h
  refine ⟨h1, fun d hd => ?_, fun d hd hb => ?_, fun d hd hb => ⟨by have := (h4 d hd hb).1; omega, (h4 d hd hb).2⟩, fun d hd => ?_, h6, sg_R0 h7 sg_u0⟩
  · rw [sg_ob hi hd]
    by_cases e : d = i
    · subst e; rw [pk_us, decide_eq_true rfl, Bool.or_true]; rfl
    · rw [pk_un e, decide_eq_false e, Bool.or_false]; exact h2 d hd
  · rw [sg_ob hi hd] at hb
    by_cases e : d = i
    · subst e; exact ⟨by omega, (sg_wst hw).1⟩
    · rw [decide_eq_false e, Bool.or_false] at hb
      exact ⟨by have := (h3 d hd hb).1; omega, (h3 d hd hb).2⟩
  · by_cases e : d = i
    · subst e
      rw [pk_us]
      cases hb : bt iw d with
      | false => rfl
      | true => have := (h4 d hd hb).1; omega
    · rw [pk_un e]; exact h5 d hd
theorem sg_V2 {g x2 x3 : Int32} {i : Nat} (hi : i < 32) (h : sg_V gr cr st rs g m i x2 x3 iw hd ex ba ad rd sa) : sg_V gr cr st rs g m (i + 1) (x2 ||| ((1 : Int32) <<< (nI i &&& 31))) x3 iw (upd hd i 0) ex (upd ba i 1) (upd ad i 0) (upd rd i 0) sa := by
  obtain ⟨h1, h2, h3, h4, h5, h6, h7⟩ := h
  refine ⟨fun d hd => ?_, fun d hd => ?_, fun d hd hb => ⟨by have := (h3 d hd hb).1; omega, (h3 d hd hb).2⟩, fun d hd hb => ⟨by have := (h4 d hd hb).1; omega, (h4 d hd hb).2⟩, fun d hd => ?_, h6, sg_R0 h7 sg_u0⟩
  · rw [sg_ob hi hd]
    by_cases e : d = i
    · subst e; rw [pk_us, decide_eq_true rfl, Bool.or_true]; rfl
    · rw [pk_un e, decide_eq_false e, Bool.or_false]; exact h1 d hd
  · by_cases e : d = i
    · subst e
      rw [pk_us]
      cases hb : bt x3 d with
      | false => rfl
      | true => have := (h3 d hd hb).1; omega
    · rw [pk_un e]; exact h2 d hd
  · by_cases e : d = i
    · subst e
      rw [pk_us]
      cases hb : bt iw d with
      | false => rfl
      | true => have := (h4 d hd hb).1; omega
    · rw [pk_un e]; exact h5 d hd
/-- the common part of the third case: the state's row is written -/
theorem sg_V3 {g x2 x3 e : Int32} {i : Nat} {sa' hd' : Nat → Int32} (hi : i < 32) (him : i < m) (hw : sg_w gr cr st g i = true) (h : sg_V gr cr st rs g m i x2 x3 iw hd ex ba ad rd sa) (f1 : sg_row e sa' i) (f2 : ∀ j, ¬ (i * 32 ≤ j ∧ j < i * 32 + 32) → sa' j = sa j) (h1 : rs i = e → hd' = hd) (h2 : ¬ rs i = e → hd' = upd hd i 0) : (∀ d, d < 32 → bt (iw ||| ((1 : Int32) <<< (nI i &&& 31))) d = true → d < i + 1 ∧ d < m ∧ sg_w gr cr st g d = true) ∧ (∀ d, d < 32 → upd rd i 1 d = sg_i (bt (iw ||| ((1 : Int32) <<< (nI i &&& 31))) d)) ∧ (∀ d, d < 32 → bt (iw ||| ((1 : Int32) <<< (nI i &&& 31))) d = true → sg_row (upd ex i e d) sa' d) ∧ sg_R hd' rs sa' := by
  obtain ⟨v1, v2, v3, v4, v5, v6, v7⟩ := h
  have hrow : ∀ (x : Int32) (d : Nat), d ≠ i → sg_row x sa d → sg_row x sa' d := by
    intro x d hne hr j hj
    rw [f2 _ (by omega)]
    exact hr j hj
  refine ⟨fun d hd hb => ?_, fun d hd => ?_, fun d hd hb => ?_, fun c hc hn => ?_⟩
  · rw [sg_ob hi hd] at hb
    by_cases e1 : d = i
    · subst e1; exact ⟨by omega, him, hw⟩
    · rw [decide_eq_false e1, Bool.or_false] at hb
      exact ⟨by have := (v4 d hd hb).1; omega, (v4 d hd hb).2⟩
  · rw [sg_ob hi hd]
    by_cases e1 : d = i
    · subst e1; rw [pk_us, decide_eq_true rfl, Bool.or_true]; rfl
    · rw [pk_un e1, decide_eq_false e1, Bool.or_false]; exact v5 d hd
  · rw [sg_ob hi hd] at hb
    by_cases e1 : d = i
    · subst e1; rw [pk_us]; exact f1
    · rw [decide_eq_false e1, Bool.or_false] at hb
      rw [pk_un e1]
      exact hrow _ _ e1 (v6 d hd hb)
  · by_cases e1 : c = i
    · subst e1
      by_cases z : rs c = e
      · rw [z]; exact f1
      · rw [h2 z, pk_us] at hn
        exact absurd rfl hn
    · have hh : hd' c = hd c := by
        by_cases z : rs i = e
        · rw [h1 z]
        · rw [h2 z, pk_un e1]
      rw [hh] at hn
      exact hrow _ _ e1 (v7 c hc hn)
theorem sg_V3a {g x2 x3 e : Int32} {i : Nat} {sa' hd' : Nat → Int32} (hi : i < 32) (him : i < m) (hw : sg_w gr cr st g i = true) (h : sg_V gr cr st rs g m i x2 x3 iw hd ex ba ad rd sa) (f1 : sg_row e sa' i) (f2 : ∀ j, ¬ (i * 32 ≤ j ∧ j < i * 32 + 32) → sa' j = sa j) (h1 : rs i = e → hd' = hd) (h2 : ¬ rs i = e → hd' = upd hd i 0) : sg_V gr cr st rs g m (i + 1) x2 (x3 ||| ((1 : Int32) <<< (nI i &&& 31))) (iw ||| ((1 : Int32) <<< (nI i &&& 31))) hd' (upd ex i e) ba (upd ad i 1) (upd rd i 1) sa' := by
  have hV := sg_V1 hi hw h
  obtain ⟨k4, k5, k6, k7⟩ := sg_V3 hi him hw h f1 f2 h1 h2
  exact ⟨hV.1, hV.2.1, hV.2.2.1, k4, k5, k6, k7⟩
theorem sg_V3b {g x2 x3 e : Int32} {i : Nat} {sa' hd' : Nat → Int32} (hi : i < 32) (him : i < m) (hw : sg_w gr cr st g i = true) (h : sg_V gr cr st rs g m i x2 x3 iw hd ex ba ad rd sa) (f1 : sg_row e sa' i) (f2 : ∀ j, ¬ (i * 32 ≤ j ∧ j < i * 32 + 32) → sa' j = sa j) (h1 : rs i = e → hd' = hd) (h2 : ¬ rs i = e → hd' = upd hd i 0) : sg_V gr cr st rs g m (i + 1) (x2 ||| ((1 : Int32) <<< (nI i &&& 31))) x3 (iw ||| ((1 : Int32) <<< (nI i &&& 31))) hd' (upd ex i e) (upd ba i 1) (upd ad i 0) (upd rd i 1) sa' := by
  have hV := sg_V2 hi h
  obtain ⟨k4, k5, k6, k7⟩ := sg_V3 hi him hw h f1 f2 h1 h2
  exact ⟨hV.1, hV.2.1, hV.2.2.1, k4, k5, k6, k7⟩
/-- the lost run: mask and row agree on it -/
theorem sg_lost {i : Nat} {e : Int32} {hd' : Nat → Int32} (hi : i < 32) (hR : sg_R hd rs sa) (f3 : sg_row e sa i → hd' = hd) (f4 : ¬ sg_row e sa i → hd' = upd hd i 0) : (rs i = e → hd' = hd) ∧ (¬ rs i = e → hd' = upd hd i 0) := by
  by_cases h0 : hd i = 0
  · have eu : upd hd i 0 = hd := sg_us h0
    have hh : hd' = hd := by
      by_cases z : sg_row e sa i
      · exact f3 z
      · rw [f4 z, eu]
    exact ⟨fun _ => hh, fun _ => by rw [eu]; exact hh⟩
  · have hr := hR i hi h0
    refine ⟨fun z => f3 (by rw [← z]; exact hr), fun z => f4 (fun y => z ?_)⟩
    apply b_ext
    intro d hd2
    exact sg_inj ((hr d hd2).symm.trans (y d hd2))
theorem sg_rvl {g : Nat} (hg : g < 8) (hS : sg_S R m gr cr np nq dn an) : ∀ k i (x2 x3 iw : Int32) (hd ex ba ad rd sa : Nat → Int32), i + k = m → sg_V gr cr st rs (nI g) m i x2 x3 iw hd ex ba ad rd sa → ∃ (iw' : Int32) (hd' ex' ba' ad' rd' sa' : Nat → Int32), sg_P gr cr st rs (nI g) m iw' hd' ex' rd' sa' ∧ (∀ post : SX → Prop, post (nI R, nI L, wl, nI l, nI m, sr, iw', gr, wn, cr, st, dn, an, hd', rs, rr, ex', lg) → wX_review_19 post (nI g) (k + 1) x2 x3 (nI (sg_cnt (sg_w gr cr st (nI g)) i)) (nI i) (nI R) (nI L) wl (nI l) (nI m) sr iw gr wn cr st dn an hd rs rr ex lg) ∧ (∀ post : SY → Prop, post (nI R, nI L, wl, nI m, sr, nI l, gr, wn, cr, np, nq, st, hd', rr, lg, sa', ba', ad', rd', rh) → wY_review_74 post (nI g) (k + 1) (nI i) (nI R) (nI L) wl (nI m) sr (nI l) gr wn cr np nq st hd rr lg sa ba ad rd rh) := by
  obtain ⟨hR, hm, hG, hC, hN, hZ⟩ := hS
  intro k
  induction k with
  | zero =>
    intro i x2 x3 iw hd ex ba ad rd sa hi hV
    have h : nI m ≤ nI i := nI_le (by omega) (by omega)
    obtain ⟨v1, v2, v3, v4, v5, v6, v7⟩ := hV
    refine ⟨iw, hd, ex, ba, ad, rd, sa, ⟨fun d hd hb => (v4 d hd hb).2, v5, v6, v7⟩, fun post hp => ?_, fun post hp => ?_⟩
    · rw [wX_review_19]; exact br_t h hp
    · rw [wY_review_74]; exact br_t h hp
  | succ k ih =>
    intro i x2 x3 iw hd ex ba ad rd sa hi hV
    have hlt : ¬ nI m ≤ nI i := nI_ge (by omega) (by omega)
    have him : i < m := by omega
    have h32 : i < 32 := by omega
    have hr := sg_cr8 hR hC him
    have eg : (nI g).toNatClampNeg = g := nI_clamp (by omega)
    cases hw : sg_w gr cr st (nI g) i with
    | false =>
      obtain ⟨iw', hd', ex', ba', ad', rd', sa', hP, hX, hY⟩ := ih (i + 1) x2 x3 iw hd ex ba ad rd sa (by omega) (sg_Vw hV)
      rw [sg_cnt_f hw] at hX
      refine ⟨iw', hd', ex', ba', ad', rd', sa', hP, fun post hp => ?_, fun post hp => ?_⟩
      · rw [wX_review_19]
        refine br_f hlt (sg_xw h32 hr ?_)
        rw [hw]
        exact br_t rfl (nm_r (nI_1 i) (hX post hp))
      · rw [wY_review_74]
        refine br_f hlt (sg_yw h32 hr ?_)
        rw [hw]
        exact br_t rfl (nm_r (nI_1 i) (hY post hp))
    | true =>
      have hcs := sg_cnt_t hw
      have hae := sg_aeq (st := st) (ad := ad) (x3 := x3) hm him hN hV.2.1 (fun d hd hb => (hV.2.2.1 d hd hb).2)
      cases hA : (sg_ia st ad np i || sg_ia st ad nq i) with
      | true =>
        obtain ⟨iw', hd', ex', ba', ad', rd', sa', hP, hX, hY⟩ := ih (i + 1) x2 _ iw _ ex ba _ _ sa (by omega) (sg_V1 h32 hw hV)
        rw [hcs] at hX
        have hn : ¬ (dn i &&& x3) = 0 := fun z => by rw [hae.mp z] at hA; exact absurd hA (by decide)
        refine ⟨iw', hd', ex', ba', ad', rd', sa', hP, fun post hp => ?_, fun post hp => ?_⟩
        · rw [wX_review_19]
          refine br_f hlt (sg_xw h32 hr ?_)
          rw [hw]
          refine br_f (by decide) ⟨vp_in_nI hg (by omega), br_c (fun _ => ?_) (fun _ => ?_)⟩
          · unfold wX_review_59
            exact sg_xv1 h32 hn (br_f (by decide) (nm_e (nm_r (nI_1 _) (nm_r (nI_1 i) (hX post hp)))))
          · unfold wX_review_59
            exact sg_xv1 h32 hn (br_f (by decide) (nm_e (nm_r (nI_1 _) (nm_r (nI_1 i) (hX post hp)))))
        · rw [wY_review_74]
          refine br_f hlt (sg_yw h32 hr ?_)
          rw [hw]
          refine br_f (by decide) (sg_yv hm hN him ?_)
          rw [hA]
          refine sg_v36 hR hm hg hC him hw true (fun _ => sg_v69 h32 (sg_v193a h32 ?_ (nm_r (nI_1 i) (hY post hp)))) (fun z => absurd z (by decide)) (fun z => absurd z (by decide))
          rw [pk_us]; decide
      | false =>
        have hn : (dn i &&& x3) = 0 := hae.mpr hA
        by_cases hpl : wn g ≤ nI (sg_cnt (sg_w gr cr st (nI g)) i)
        · obtain ⟨iw', hd', ex', ba', ad', rd', sa', hP, hX, hY⟩ := ih (i + 1) _ x3 iw _ ex _ _ _ sa (by omega) (sg_V2 h32 hV)
          rw [hcs] at hX
          refine ⟨iw', hd', ex', ba', ad', rd', sa', hP, fun post hp => ?_, fun post hp => ?_⟩
          · rw [wX_review_19]
            refine br_f hlt (sg_xw h32 hr ?_)
            rw [hw]
            refine br_f (by decide) ⟨vp_in_nI hg (by omega), ?_⟩
            rw [eg]
            refine br_t hpl ?_
            unfold wX_review_59
            exact sg_xv2 h32 hn (br_t rfl (nm_e (nm_r (nI_1 _) (nm_r (nI_1 i) (hX post hp)))))
          · rw [wY_review_74]
            refine br_f hlt (sg_yw h32 hr ?_)
            rw [hw]
            refine br_f (by decide) (sg_yv hm hN him ?_)
            rw [hA]
            exact sg_v36 hR hm hg hC him hw false (fun z => absurd z (by decide)) (fun _ _ => sg_v69 h32 (sg_v193b h32 pk_us (nm_r (nI_1 i) (hY post hp)))) (fun _ z => absurd hpl z)
        · have he : ∀ d, d < 32 → bt (x2 ||| ((1 : Int32) <<< (nI i &&& 31))) d = (decide (¬ ba d = 0) || decide (d = i)) := by
            intro d hd
            rw [sg_ob h32 hd, hV.1 d hd]
            congr 1
            cases bt x2 d <;> rfl
          obtain ⟨sa1, hd1, f1, f2, f3, f4, f5⟩ := sg_v70 (R := R) (L := L) (m := m) (l := l) (wl := wl) (sr := sr) (gr := gr) (wn := wn) (cr := cr) (st := st) (hd := hd) (rr := rr) (lg := lg) (np := np) (nq := nq) (sa := sa) (ba := ba) (ad := (upd ad i 0)) (rd := rd) (rh := rh) h32 pk_us he
          obtain ⟨g1, g2⟩ := sg_lost h32 hV.2.2.2.2.2.2 f3 f4
          by_cases hf : ¬ hd1 i = 0 ∧ rr i = 2
          · obtain ⟨iw', hd', ex', ba', ad', rd', sa', hP, hX, hY⟩ := ih (i + 1) _ _ _ _ _ _ _ _ _ (by omega) (sg_V3a h32 him hw hV f1 f2 g1 g2)
            rw [hcs] at hX
            refine ⟨iw', hd', ex', ba', ad', rd', sa', hP, fun post hp => ?_, fun post hp => ?_⟩
            · rw [wX_review_19]
              refine br_f hlt (sg_xw h32 hr ?_)
              rw [hw]
              refine br_f (by decide) ⟨vp_in_nI hg (by omega), ?_⟩
              rw [eg]
              refine br_f hpl ?_
              unfold wX_review_59
              exact sg_xv3 h32 hn g1 g2 (fun _ _ => br_f (by decide) (nm_e (nm_r (nI_1 _) (nm_r (nI_1 i) (hX post hp))))) (fun z => absurd hf z)
            · rw [wY_review_74]
              refine br_f hlt (sg_yw h32 hr ?_)
              rw [hw]
              refine br_f (by decide) (sg_yv hm hN him ?_)
              rw [hA]
              refine sg_v36 hR hm hg hC him hw false (fun z => absurd z (by decide)) (fun _ z => absurd z hpl) (fun _ _ => f5 _ (fun _ _ => ?_) (fun z => absurd hf z))
              rw [sg_uu]
              exact nm_r (nI_1 i) (hY post hp)
          · obtain ⟨iw', hd', ex', ba', ad', rd', sa', hP, hX, hY⟩ := ih (i + 1) _ _ _ _ _ _ _ _ _ (by omega) (sg_V3b h32 him hw hV f1 f2 g1 g2)
            rw [hcs] at hX
            refine ⟨iw', hd', ex', ba', ad', rd', sa', hP, fun post hp => ?_, fun post hp => ?_⟩
            · rw [wX_review_19]
              refine br_f hlt (sg_xw h32 hr ?_)
              rw [hw]
              refine br_f (by decide) ⟨vp_in_nI hg (by omega), ?_⟩
              rw [eg]
              refine br_f hpl ?_
              unfold wX_review_59
              exact sg_xv3 h32 hn g1 g2 (fun y z => absurd ⟨y, z⟩ hf) (fun _ => br_t rfl (nm_e (nm_r (nI_1 _) (nm_r (nI_1 i) (hX post hp)))))
            · rw [wY_review_74]
              refine br_f hlt (sg_yw h32 hr ?_)
              rw [hw]
              refine br_f (by decide) (sg_yv hm hN him ?_)
              rw [hA]
              exact sg_v36 hR hm hg hC him hw false (fun z => absurd z (by decide)) (fun _ z => absurd z hpl) (fun _ _ => f5 _ (fun y z => absurd ⟨y, z⟩ hf) (fun _ => nm_r (nI_1 i) (hY post hp)))
theorem sg_rev {g : Nat} (hg : g < 8) (hS : sg_S R m gr cr np nq dn an) (hH : sg_R hd rs sa) : ∃ (iw' : Int32) (hd' ex' ba' ad' rd' sa' : Nat → Int32), sg_P gr cr st rs (nI g) m iw' hd' ex' rd' sa' ∧ (∀ post : SX → Prop, post (nI R, nI L, wl, nI l, nI m, sr, iw', gr, wn, cr, st, dn, an, hd', rs, rr, ex', lg) → wpX_review post (nI R, nI L, wl, nI l, nI m, sr, iw, gr, wn, cr, st, dn, an, hd, rs, rr, ex, lg) (nI g)) ∧ (∀ post : SY → Prop, post (nI R, nI L, wl, nI m, sr, nI l, gr, wn, cr, np, nq, st, hd', rr, lg, sa', ba', ad', rd', rh) → wpY_review post (nI R, nI L, wl, nI m, sr, nI l, gr, wn, cr, np, nq, st, hd, rr, lg, sa, ba, ad, rd, rh) (nI g)) := by
  have hS' := hS
  obtain ⟨hR, hm, hG, hC, hN, hZ⟩ := hS'
  obtain ⟨ba1, ad1, rd1, h1, h2⟩ := sg_r2 (R := R) (L := L) (m := m) (l := l) (wl := wl) (sr := sr) (gr := gr) (wn := wn) (cr := cr) (st := st) (hd := hd) (rr := rr) (lg := lg) (np := np) (nq := nq) (sa := sa) (rh := rh) (g := nI g) hR hm hC 32 0 ba ad rd (by omega) (fun d hd => absurd hd (Nat.not_lt_zero d))
  obtain ⟨x2, e2, hx2⟩ := sg_mi (R := R) (L := L) (m := m) (l := l) (wl := wl) (sr := sr) (iw := iw) (gr := gr) (wn := wn) (cr := cr) (st := st) (dn := dn) (an := an) (hd := hd) (rs := rs) (rr := rr) (ex := ex) (lg := lg) (nI g) hR hm hC
  obtain ⟨iw', hd', ex', ba', ad', rd', sa', hP, hX, hY⟩ := sg_rvl (R := R) (L := L) (m := m) (l := l) (wl := wl) (sr := sr) (gr := gr) (wn := wn) (cr := cr) (st := st) (dn := dn) (an := an) (rs := rs) (rr := rr) (lg := lg) (np := np) (nq := nq) (rh := rh) hg hS m 0 x2 0 0 hd ex ba1 ad1 rd1 sa (by omega) ⟨fun d hd => by rw [e2 d hd]; exact (h1 d hd).1, fun d hd => by rw [b_0]; exact (h1 d hd).2.1, fun d hd hb => by rw [b_0] at hb; exact absurd hb (by decide), fun d hd hb => by rw [b_0] at hb; exact absurd hb (by decide), fun d hd => by rw [b_0]; exact (h1 d hd).2.2, fun d hd hb => by rw [b_0] at hb; exact absurd hb (by decide), hH⟩
  refine ⟨iw', hd', ex', ba', ad', rd', sa', hP, fun post hp => ?_, fun post hp => ?_⟩
  · unfold wpX_review
    dsimp only
    exact hx2 _ ⟨m + 1, hX post hp⟩
  · unfold wpY_review
    dsimp only
    exact ⟨33, h2 post ⟨m + 1, hY post hp⟩⟩
end
end
section
/-! closing, the oldest, dropping, the window, a decision in lockstep -/
section
variable {R L m l : Nat} {wl sr iw : Int32} {gr wn cr st dn an hd rs rr ex lg np nq sa ba ad rd rh : Nat → Int32}
theorem sg_clo {c : Nat} (hc : c < 32) (hl : l ≤ 32) (v : Int32) (h4 : ¬ v = 4) : ∃ (l' : Nat) (lg' : Nat → Int32), l' ≤ 32 ∧ (∀ post : SX → Prop, post (nI R, nI L, wl, nI l', nI m, sr, iw, gr, wn, cr, upd st c v, dn, an, upd hd c 0, rs, rr, ex, lg') → wpX_closeLogged post (nI R, nI L, wl, nI l, nI m, sr, iw, gr, wn, cr, st, dn, an, hd, rs, rr, ex, lg) (nI c) v) ∧ (∀ post : SY → Prop, post (nI R, nI L, wl, nI m, sr, nI l', gr, wn, cr, np, nq, upd st c v, upd hd c 0, rr, lg', sa, ba, ad, rd, rh) → wpY_close post (nI R, nI L, wl, nI m, sr, nI l, gr, wn, cr, np, nq, st, hd, rr, lg, sa, ba, ad, rd, rh) (nI c) v) := by
  have e : (nI c).toNatClampNeg = c := nI_clamp (by omega)
  have hv : vp_in (nI c) 32 := vp_in_nI hc (by omega)
  unfold wpX_closeLogged wpX_close wpY_close
  dsimp only
  rw [e]
  by_cases h : 32 ≤ l
  · have h' : (32 : Int32) ≤ nI l := nI_le (a := 32) h (by omega)
    exact ⟨l, lg, hl, fun post hp => ⟨hv, nm_e ⟨hv, nm_e (br_t h' hp)⟩⟩, fun post hp => ⟨hv, nm_e ⟨hv, nm_e (br_f h4 (br_t h' hp))⟩⟩⟩
  · have h' : ¬ (32 : Int32) ≤ nI l := nI_ge (b := 32) (by omega) (by omega)
    have el : (nI l).toNatClampNeg = l := nI_clamp (by omega)
    have hvl : vp_in (nI l) 32 := vp_in_nI (by omega) (by omega)
    rw [el]
    exact ⟨l + 1, upd lg l (nI c), by omega, fun post hp => ⟨hv, nm_e ⟨hv, nm_e (br_f h' ⟨hvl, nm_e (nm_r (nI_1 l) hp)⟩)⟩⟩, fun post hp => ⟨hv, nm_e ⟨hv, nm_e (br_f h4 (br_f h' ⟨hvl, nm_e (nm_r (nI_1 l) hp)⟩))⟩⟩⟩
theorem sg_old {g : Int32} (hR : R ≤ 8) (hm : m ≤ 32) (hC : sg_C R m cr) : ∀ k i, i + k = m → ∃ (o : Nat) (r : Int32), (r = -1 ∧ o = m ∨ r = nI o ∧ o < m ∧ sg_w gr cr st g o = true) ∧ (∀ post : Int32 → Prop, post r → wX_oldest_2 post g (nI R) (nI L) wl (nI l) (nI m) sr iw gr wn cr st dn an hd rs rr ex lg (k + 1) (nI i)) ∧ (∀ post : Int32 → SY → Prop, wY_decide_25 post g (nI o) (nI R) (nI L) wl (nI m) sr (nI l) gr wn cr np nq st hd rr lg sa ba ad rd rh → wY_decide_2 post g (nI R) (nI L) wl (nI m) sr (nI l) gr wn cr np nq st hd rr lg sa ba ad rd rh (k + 1) (nI i)) := by
  intro k
  induction k with
  | zero =>
    intro i hi
    have h : nI m ≤ nI i := nI_le (by omega) (by omega)
    have e : i = m := by omega
    refine ⟨i, -1, Or.inl ⟨rfl, e⟩, fun post hp => ?_, fun post hp => ?_⟩
    · rw [wX_oldest_2]; exact br_t h hp
    · rw [wY_decide_2]; exact br_t h hp
  | succ k ih =>
    intro i hi
    have h : ¬ nI m ≤ nI i := nI_ge (by omega) (by omega)
    have h32 : i < 32 := by omega
    have hr := sg_cr8 hR hC (show i < m by omega)
    cases hw : sg_w gr cr st g i with
    | true =>
      refine ⟨i, nI i, Or.inr ⟨rfl, by omega, hw⟩, fun post hp => ?_, fun post hp => ?_⟩
      · rw [wX_oldest_2]
        refine br_f h (sg_xw h32 hr ?_)
        rw [hw]
        exact br_f (by decide) hp
      · rw [wY_decide_2]
        refine br_f h (sg_yw h32 hr ?_)
        rw [hw]
        exact br_f (by decide) hp
    | false =>
      obtain ⟨o, r, ho, hX, hY⟩ := ih (i + 1) (by omega)
      refine ⟨o, r, ho, fun post hp => ?_, fun post hp => ?_⟩
      · rw [wX_oldest_2]
        refine br_f h (sg_xw h32 hr ?_)
        rw [hw]
        exact br_t rfl (nm_r (nI_1 i) (hX post hp))
      · rw [wY_decide_2]
        refine br_f h (sg_yw h32 hr ?_)
        rw [hw]
        exact br_t rfl (nm_r (nI_1 i) (hY post hp))
theorem sg_wid {g : Nat} (hg : g < 8) : ∃ wn' : Nat → Int32, (∀ post : SX → Prop, post (nI R, nI L, wl, nI l, nI m, sr, iw, gr, wn', cr, st, dn, an, hd, rs, rr, ex, lg) → wpX_widen post (nI R, nI L, wl, nI l, nI m, sr, iw, gr, wn, cr, st, dn, an, hd, rs, rr, ex, lg) (nI g)) ∧ (∀ post : Int32 → SY → Prop, post 1 (nI R, nI L, wl, nI m, sr, nI l, gr, wn', cr, np, nq, st, hd, rr, lg, sa, ba, ad, rd, rh) → (vp_in (nI g) 8 ∧ (((wl ≤ (wn (nI g).toNatClampNeg) → (post 1 (nI R, nI L, wl, nI m, sr, nI l, gr, wn, cr, np, nq, st, hd, rr, lg, sa, ba, ad, rd, rh))) ∧ (¬ wl ≤ (wn (nI g).toNatClampNeg) → (vp_in (nI g) 8 ∧ (vp_in (nI g) 8 ∧ ∀ w', w' = upd wn (nI g).toNatClampNeg ((wn (nI g).toNatClampNeg) + 1) → (post 1 (nI R, nI L, wl, nI m, sr, nI l, gr, w', cr, np, nq, st, hd, rr, lg, sa, ba, ad, rd, rh))))))))) := by
  have e : (nI g).toNatClampNeg = g := nI_clamp (by omega)
  have hv : vp_in (nI g) 8 := vp_in_nI hg (by omega)
  unfold wpX_widen
  dsimp only
  rw [e]
  by_cases h : wl ≤ wn g
  · exact ⟨wn, fun post hp => ⟨hv, br_t h hp⟩, fun post hp => ⟨hv, br_t h hp⟩⟩
  · exact ⟨upd wn g (wn g + 1), fun post hp => ⟨hv, br_f h ⟨hv, hv, nm_e hp⟩⟩, fun post hp => ⟨hv, br_f h ⟨hv, hv, nm_e hp⟩⟩⟩
theorem sg_hlv {g : Nat} (hg : g < 8) : ∃ wn' : Nat → Int32, (∀ post : SX → Prop, post (nI R, nI L, wl, nI l, nI m, sr, iw, gr, wn', cr, st, dn, an, hd, rs, rr, ex, lg) → wpX_halve post (nI R, nI L, wl, nI l, nI m, sr, iw, gr, wn, cr, st, dn, an, hd, rs, rr, ex, lg) (nI g)) ∧ (∀ (post : Int32 → SY → Prop) (o : Int32), post 1 (nI R, nI L, wl, nI m, sr, nI l, gr, wn', cr, np, nq, st, hd, rr, lg, sa, ba, ad, rd, rh) → wY_decide_102 post (nI g) o 1 (nI m) (nI R) (nI L) wl (nI m) sr (nI l) gr wn cr np nq st hd rr lg sa ba ad rd rh) := by
  have e : (nI g).toNatClampNeg = g := nI_clamp (by omega)
  have hv : vp_in (nI g) 8 := vp_in_nI hg (by omega)
  have h2 : ¬ (2 : Int32) = 0 := by decide
  by_cases h : (2 : Int32) ≤ wn g
  · refine ⟨upd wn g (wn g / 2), fun post hp => ?_, fun post o hp => ?_⟩
    · unfold wpX_halve
      dsimp only
      rw [e]
      exact ⟨hv, h2, nm_e (br_t ((sg_half _).mp h) ⟨hv, nm_e hp⟩)⟩
    · rw [wY_decide_102]
      refine br_t (Int32.le_refl _) ?_
      rw [e]
      exact ⟨hv, br_t h ⟨hv, h2, hv, nm_e hp⟩⟩
  · refine ⟨upd wn g 1, fun post hp => ?_, fun post o hp => ?_⟩
    · unfold wpX_halve
      dsimp only
      rw [e]
      exact ⟨hv, h2, nm_e (br_f (fun z => h ((sg_half _).mpr z)) ⟨hv, nm_e hp⟩)⟩
    · rw [wY_decide_102]
      refine br_t (Int32.le_refl _) ?_
      rw [e]
      exact ⟨hv, br_f h ⟨hv, nm_e hp⟩⟩
theorem sg_z0 {c : Nat} {v : Int32} (hv : ¬ v = 0) : ∀ d, upd st c v d = 0 → st d = 0 := by
  intro d h
  by_cases e : d = c
  · subst e; rw [pk_us] at h; exact absurd h hv
  · rw [pk_un e] at h; exact h
/-- the reference's drop loop up to the ejected change does nothing -/
theorem sg_drp {o : Nat} {g : Int32} (hm : m ≤ 32) (hN : sg_Nd m np nq dn an) (ho : o < m) : ∀ k i (rh : Nat → Int32), i + k = o + 1 → ∃ rh' : Nat → Int32, ∀ post : Int32 → SY → Prop, (∃ n, wY_decide_102 post g (nI o) n (nI (o + 1)) (nI R) (nI L) wl (nI m) sr (nI l) gr wn cr np nq st hd rr lg sa ba ad rd rh') → ∃ n, wY_decide_102 post g (nI o) n (nI i) (nI R) (nI L) wl (nI m) sr (nI l) gr wn cr np nq st hd rr lg sa ba ad rd rh := by
  intro k
  induction k with
  | zero =>
    intro i rh hi
    have e : i = o + 1 := by omega
    subst e
    exact ⟨rh, fun post h => h⟩
  | succ k ih =>
    intro i rh hi
    have e : (nI i).toNatClampNeg = i := nI_clamp (by omega)
    have hv : vp_in (nI i) 32 := vp_in_nI (by omega) (by omega)
    have hlt : ¬ nI m ≤ nI i := nI_ge (by omega) (by omega)
    by_cases hs : st i = 0
    · obtain ⟨rh1, h1⟩ := sg_needs (R := R) (L := L) (m := m) (l := l) (wl := wl) (sr := sr) (gr := gr) (wn := wn) (cr := cr) (st := st) (dn := dn) (an := an) (hd := hd) (rr := rr) (lg := lg) (np := np) (nq := nq) (sa := sa) (ba := ba) (ad := ad) (rd := rd) (rh := rh) hm hN ho (show i < m by omega)
      obtain ⟨rh', h2⟩ := ih (i + 1) rh1 (by omega)
      refine ⟨rh', fun post h => ?_⟩
      obtain ⟨n, hn⟩ := h2 post h
      refine ⟨n + 1, ?_⟩
      have hb : bt (an i) o = false := by
        cases hb : bt (an i) o with
        | false => rfl
        | true => have := sg_anlt hm hN (show o < 32 by omega) i (by omega) hb; omega
      rw [wY_decide_102]
      refine br_f hlt ?_
      rw [e]
      refine ⟨hv, br_t hs (h1 _ ?_)⟩
      rw [hb]
      exact br_f (by decide) (nm_r (nI_1 i) hn)
    · obtain ⟨rh', h2⟩ := ih (i + 1) rh (by omega)
      refine ⟨rh', fun post h => ?_⟩
      obtain ⟨n, hn⟩ := h2 post h
      refine ⟨n + 1, ?_⟩
      rw [wY_decide_102]
      refine br_f hlt ?_
      rw [e]
      exact ⟨hv, br_f hs (nm_r (nI_1 i) hn)⟩
theorem sg_drl {o : Nat} {g : Int32} (hm : m ≤ 32) (hN : sg_Nd m np nq dn an) (ho : o < m) : ∀ k i (l : Nat) (lg st hd rh : Nat → Int32), i + k = m → o < i → l ≤ 32 → ∃ (l' : Nat) (lg' st' hd' rh' : Nat → Int32), l' ≤ 32 ∧ (∀ c, st' c = 0 → st c = 0) ∧ (∀ c, hd' c = hd c ∨ hd' c = 0) ∧ (∀ post : SX → Prop, post (nI R, nI L, wl, nI l', nI m, sr, iw, gr, wn, cr, st', dn, an, hd', rs, rr, ex, lg') → wX_dropDependents_4 post (nI o) (k + 1) (nI i) (nI R) (nI L) wl (nI l) (nI m) sr iw gr wn cr st dn an hd rs rr ex lg) ∧ (∀ post : Int32 → SY → Prop, wY_decide_102 post g (nI o) 1 (nI m) (nI R) (nI L) wl (nI m) sr (nI l') gr wn cr np nq st' hd' rr lg' sa ba ad rd rh' → wY_decide_102 post g (nI o) (k + 1) (nI i) (nI R) (nI L) wl (nI m) sr (nI l) gr wn cr np nq st hd rr lg sa ba ad rd rh) := by
  intro k
  induction k with
  | zero =>
    intro i l lg st hd rh hi hoi hl
    have e : i = m := by omega
    subst e
    refine ⟨l, lg, st, hd, rh, hl, fun _ h => h, fun _ => Or.inl rfl, fun post hp => ?_, fun post hp => hp⟩
    rw [wX_dropDependents_4]
    exact br_t (Int32.le_refl _) hp
  | succ k ih =>
    intro i l lg st hd rh hi hoi hl
    have e : (nI i).toNatClampNeg = i := nI_clamp (by omega)
    have h32 : i < 32 := by omega
    have hv : vp_in (nI i) 32 := vp_in_nI (by omega) (by omega)
    have hlt : ¬ nI m ≤ nI i := nI_ge (by omega) (by omega)
    by_cases hs : st i = 0
    · obtain ⟨rh1, h1⟩ := sg_needs (R := R) (L := L) (m := m) (l := l) (wl := wl) (sr := sr) (gr := gr) (wn := wn) (cr := cr) (st := st) (dn := dn) (an := an) (hd := hd) (rr := rr) (lg := lg) (np := np) (nq := nq) (sa := sa) (ba := ba) (ad := ad) (rd := rd) (rh := rh) hm hN ho (show i < m by omega)
      cases hb : bt (an i) o with
      | true =>
        rw [hb] at h1
        obtain ⟨l1, lg1, hl1, c1, c2⟩ := sg_clo (R := R) (L := L) (m := m) (l := l) (wl := wl) (sr := sr) (iw := iw) (gr := gr) (wn := wn) (cr := cr) (st := st) (dn := dn) (an := an) (hd := hd) (rs := rs) (rr := rr) (ex := ex) (lg := lg) (np := np) (nq := nq) (sa := sa) (ba := ba) (ad := ad) (rd := rd) (rh := rh1) h32 hl 3 (by decide)
        obtain ⟨l', lg', st', hd', rh', k1, k2, k3, k4, k5⟩ := ih (i + 1) l1 lg1 (upd st i 3) (upd hd i 0) rh1 (by omega) (by omega) hl1
        refine ⟨l', lg', st', hd', rh', k1, fun c z => sg_z0 (by decide) c (k2 c z), sg_t0 sg_u0 k3, fun post hp => ?_, fun post hp => ?_⟩
        · rw [wX_dropDependents_4]
          refine br_f hlt ?_
          rw [e]
          refine ⟨hv, br_t hs ⟨hv, sg_xh (by omega) ?_⟩⟩
          rw [hb]
          exact br_f (by decide) (c1 _ (nm_r (nI_1 i) (k4 post hp)))
        · rw [wY_decide_102]
          refine br_f hlt ?_
          rw [e]
          exact ⟨hv, br_t hs (h1 _ (br_t rfl (c2 _ (nm_r (nI_1 i) (k5 post hp)))))⟩
      | false =>
        rw [hb] at h1
        obtain ⟨l', lg', st', hd', rh', k1, k2, k3, k4, k5⟩ := ih (i + 1) l lg st hd rh1 (by omega) (by omega) hl
        refine ⟨l', lg', st', hd', rh', k1, k2, k3, fun post hp => ?_, fun post hp => ?_⟩
        · rw [wX_dropDependents_4]
          refine br_f hlt ?_
          rw [e]
          refine ⟨hv, br_t hs ⟨hv, sg_xh (by omega) ?_⟩⟩
          rw [hb]
          exact br_t rfl (nm_r (nI_1 i) (k4 post hp))
        · rw [wY_decide_102]
          refine br_f hlt ?_
          rw [e]
          exact ⟨hv, br_t hs (h1 _ (br_f (by decide) (nm_r (nI_1 i) (k5 post hp))))⟩
    · obtain ⟨l', lg', st', hd', rh', k1, k2, k3, k4, k5⟩ := ih (i + 1) l lg st hd rh (by omega) (by omega) hl
      refine ⟨l', lg', st', hd', rh', k1, k2, k3, fun post hp => ?_, fun post hp => ?_⟩
      · rw [wX_dropDependents_4]
        refine br_f hlt ?_
        rw [e]
        exact ⟨hv, br_f hs (nm_r (nI_1 i) (k4 post hp))⟩
      · rw [wY_decide_102]
        refine br_f hlt ?_
        rw [e]
        exact ⟨hv, br_f hs (nm_r (nI_1 i) (k5 post hp))⟩
def sg_wt (st : Nat → Int32) (c : Nat) : Bool := decide (st c = 0)
theorem sg_wl {st' : Nat → Int32} {o : Nat} (ho : o < m) (h0 : st o = 0) (h1 : ¬ st' o = 0) (h : ∀ c, st' c = 0 → st c = 0) : sg_cnt (sg_wt st') m < sg_cnt (sg_wt st) m := by
  refine sg_cnt_lt (fun c hc => ?_) (o := o) ?_ ?_ m ho
  · unfold sg_wt at hc ⊢
    rw [decide_eq_true_eq] at hc ⊢
    exact h c hc
  · exact decide_eq_true h0
  · exact decide_eq_false h1
theorem sg_dec {g : Nat} (hg : g < 8) (hS : sg_S R m gr cr np nq dn an) (hl : l ≤ 32) : ∃ (r : Bool) (l' : Nat) (wn' st' hd' lg' rh' : Nat → Int32), l' ≤ 32 ∧ (∀ c, hd' c = hd c ∨ hd' c = 0) ∧ (r = false → st' = st ∧ hd' = hd) ∧ (r = true → sg_cnt (sg_wt st') m < sg_cnt (sg_wt st) m) ∧ (∀ post : Int32 → SX → Prop, post (sg_i r) (nI R, nI L, wl, nI l', nI m, sr, iw, gr, wn', cr, st', dn, an, hd', rs, rr, ex, lg') → wpX_decide post (nI R, nI L, wl, nI l, nI m, sr, iw, gr, wn, cr, st, dn, an, hd, rs, rr, ex, lg) (nI g)) ∧ (∀ post : Int32 → SY → Prop, post (sg_i r) (nI R, nI L, wl, nI m, sr, nI l', gr, wn', cr, np, nq, st', hd', rr, lg', sa, ba, ad, rd, rh') → wpY_decide post (nI R, nI L, wl, nI m, sr, nI l, gr, wn, cr, np, nq, st, hd, rr, lg, sa, ba, ad, rd, rh) (nI g)) := by
  obtain ⟨hR, hm, hG, hC, hN, hZ⟩ := hS
  obtain ⟨o, r, ho, hX, hY⟩ := sg_old (R := R) (L := L) (m := m) (l := l) (wl := wl) (sr := sr) (iw := iw) (gr := gr) (wn := wn) (cr := cr) (st := st) (dn := dn) (an := an) (hd := hd) (rs := rs) (rr := rr) (ex := ex) (lg := lg) (np := np) (nq := nq) (sa := sa) (ba := ba) (ad := ad) (rd := rd) (rh := rh) (g := nI g) hR hm hC m 0 (by omega)
  unfold wpX_decide wpY_decide wpX_oldest
  dsimp only
  rcases ho with ⟨er, eo⟩ | ⟨er, hom, hw⟩
  · subst er
    refine ⟨false, l, wn, st, hd, lg, rh, hl, fun _ => Or.inl rfl, fun _ => ⟨rfl, rfl⟩, fun z => absurd z (by decide), fun post hp => ⟨m + 1, hX _ (br_t (by decide) hp)⟩, fun post hp => ⟨m + 1, hY _ ?_⟩⟩
    unfold wY_decide_25
    exact br_t (nI_le (by omega) (by omega)) hp
  · subst er
    have e : (nI o).toNatClampNeg = o := nI_clamp (by omega)
    have h32 : o < 32 := by omega
    have hv : vp_in (nI o) 32 := vp_in_nI (by omega) (by omega)
    have hlt : ¬ nI m ≤ nI o := nI_ge hom (by omega)
    have hnn : ¬ nI o < 0 := nI_pos (by omega)
    have hst := (sg_wst hw).1
    by_cases h0 : hd o = 0
    · refine ⟨false, l, wn, st, hd, lg, rh, hl, fun _ => Or.inl rfl, fun _ => ⟨rfl, rfl⟩, fun z => absurd z (by decide), fun post hp => ⟨m + 1, hX _ (br_f hnn ⟨hv, ?_⟩)⟩, fun post hp => ⟨m + 1, hY _ ?_⟩⟩
      · rw [e]; exact br_t h0 hp
      · unfold wY_decide_25
        rw [e]
        exact br_f hlt ⟨hv, br_t h0 hp⟩
    · by_cases h1 : rr o = 0
      · refine ⟨false, l, wn, st, hd, lg, rh, hl, fun _ => Or.inl rfl, fun _ => ⟨rfl, rfl⟩, fun z => absurd z (by decide), fun post hp => ⟨m + 1, hX _ (br_f hnn ⟨hv, ?_⟩)⟩, fun post hp => ⟨m + 1, hY _ ?_⟩⟩
        · rw [e]; exact br_f h0 ⟨hv, br_t h1 hp⟩
        · unfold wY_decide_25
          rw [e]
          exact br_f hlt ⟨hv, br_f h0 ⟨hv, br_t h1 hp⟩⟩
      · by_cases h2 : rr o = 1
        · obtain ⟨l1, lg1, hl1, c1, c2⟩ := sg_clo (R := R) (L := L) (m := m) (l := l) (wl := wl) (sr := sr) (iw := iw) (gr := gr) (wn := wn) (cr := cr) (st := st) (dn := dn) (an := an) (hd := hd) (rs := rs) (rr := rr) (ex := ex) (lg := lg) (np := np) (nq := nq) (sa := sa) (ba := ba) (ad := ad) (rd := rd) (rh := rh) h32 hl 1 (by decide)
          obtain ⟨wn1, w1, w2⟩ := sg_wid (R := R) (L := L) (m := m) (l := l1) (wl := wl) (sr := sr) (iw := iw) (gr := gr) (wn := wn) (cr := cr) (st := (upd st o 1)) (dn := dn) (an := an) (hd := (upd hd o 0)) (rs := rs) (rr := rr) (ex := ex) (lg := lg1) (np := np) (nq := nq) (sa := sa) (ba := ba) (ad := ad) (rd := rd) (rh := rh) hg
          refine ⟨true, l1, wn1, upd st o 1, upd hd o 0, lg1, rh, hl1, sg_u0, fun z => absurd z (by decide), fun _ => sg_wl hom hst (by rw [pk_us]; decide) (sg_z0 (by decide)), fun post hp => ⟨m + 1, hX _ (br_f hnn ⟨hv, ?_⟩)⟩, fun post hp => ⟨m + 1, hY _ ?_⟩⟩
          · rw [e]
            exact br_f h0 ⟨hv, br_f h1 ⟨hv, br_t h2 (c1 _ (w1 _ hp))⟩⟩
          · unfold wY_decide_25
            rw [e]
            exact br_f hlt ⟨hv, br_f h0 ⟨hv, br_f h1 ⟨hv, br_t h2 (c2 _ (w2 post hp))⟩⟩⟩
        · obtain ⟨l1, lg1, hl1, c1, c2⟩ := sg_clo (R := R) (L := L) (m := m) (l := l) (wl := wl) (sr := sr) (iw := iw) (gr := gr) (wn := wn) (cr := cr) (st := st) (dn := dn) (an := an) (hd := hd) (rs := rs) (rr := rr) (ex := ex) (lg := lg) (np := np) (nq := nq) (sa := sa) (ba := ba) (ad := ad) (rd := rd) (rh := rh) h32 hl 2 (by decide)
          obtain ⟨rh1, p1⟩ := sg_drp (R := R) (L := L) (m := m) (l := l1) (wl := wl) (sr := sr) (gr := gr) (wn := wn) (cr := cr) (st := (upd st o 2)) (dn := dn) (an := an) (hd := (upd hd o 0)) (rr := rr) (lg := lg1) (np := np) (nq := nq) (sa := sa) (ba := ba) (ad := ad) (rd := rd) (g := nI g) hm hN hom (o + 1) 0 rh (by omega)
          obtain ⟨l2, lg2, st2, hd2, rh2, k1, k2, k3, k4, k5⟩ := sg_drl (R := R) (L := L) (m := m) (wl := wl) (sr := sr) (iw := iw) (gr := gr) (wn := wn) (cr := cr) (dn := dn) (an := an) (rs := rs) (rr := rr) (ex := ex) (np := np) (nq := nq) (sa := sa) (ba := ba) (ad := ad) (rd := rd) (g := nI g) hm hN hom (m - (o + 1)) (o + 1) l1 lg1 (upd st o 2) (upd hd o 0) rh1 (by omega) (by omega) hl1
          obtain ⟨wn1, w1, w2⟩ := sg_hlv (R := R) (L := L) (m := m) (l := l2) (wl := wl) (sr := sr) (iw := iw) (gr := gr) (wn := wn) (cr := cr) (st := st2) (dn := dn) (an := an) (hd := hd2) (rs := rs) (rr := rr) (ex := ex) (lg := lg2) (np := np) (nq := nq) (sa := sa) (ba := ba) (ad := ad) (rd := rd) (rh := rh2) hg
          have hso : ¬ st2 o = 0 := fun z => by
            have := k2 o z
            rw [pk_us] at this
            exact absurd this (by decide)
          refine ⟨true, l2, wn1, st2, hd2, lg2, rh2, k1, sg_t0 sg_u0 k3, fun z => absurd z (by decide), fun _ => sg_wl hom hst hso (fun c z => sg_z0 (by decide) c (k2 c z)), fun post hp => ⟨m + 1, hX _ (br_f hnn ⟨hv, ?_⟩)⟩, fun post hp => ⟨m + 1, hY _ ?_⟩⟩
          · rw [e]
            refine br_f h0 ⟨hv, br_f h1 ⟨hv, br_f h2 (c1 _ ?_)⟩⟩
            dsimp only
            unfold wpX_dropDependents
            dsimp only
            exact nm_r (nI_1 o) ⟨_, k4 _ (w1 _ hp)⟩
          · unfold wY_decide_25
            rw [e]
            exact br_f hlt ⟨hv, br_f h0 ⟨hv, br_f h1 ⟨hv, br_f h2 (c2 _ (p1 post ⟨_, k5 post (w2 post _ hp)⟩))⟩⟩⟩
end
end
section
/-! starting the runs, settling -/
section
variable {R L m l : Nat} {wl sr iw : Int32} {gr wn cr st dn an hd rs rr ex lg np nq sa ba ad rd rh : Nat → Int32}
theorem sg_str {g : Nat} (hS : sg_S R m gr cr np nq dn an) (p1 : ∀ d, d < 32 → bt iw d = true → d < m ∧ sg_w gr cr st (nI g) d = true) (p2 : ∀ d, d < 32 → rd d = sg_i (bt iw d)) (p3 : ∀ d, d < 32 → bt iw d = true → sg_row (ex d) sa d) : ∀ k i (sr : Int32) (hd rs rr : Nat → Int32), i + k = m → sg_R hd rs sa → ∃ (sr' : Int32) (hd' rs' rr' : Nat → Int32), sg_R hd' rs' sa ∧ (∀ post : SX → Prop, post (nI R, nI L, wl, nI l, nI m, sr', iw, gr, wn, cr, st, dn, an, hd', rs', rr', ex, lg) → wX_startRuns_2 post (nI R) (nI L) wl (nI l) (nI m) iw (k + 1) (nI i) sr gr wn cr st dn an hd rs rr ex lg) ∧ (∀ post : SY → Prop, post (nI R, nI L, wl, nI m, sr', nI l, gr, wn, cr, np, nq, st, hd', rr', lg, sa, ba, ad, rd, rh) → wY_settle_33 post (nI g) (nI R) (nI L) wl (nI m) (nI l) (k + 1) (nI i) sr gr wn cr np nq st hd rr lg sa ba ad rd rh) := by
  obtain ⟨hR, hm, hG, hC, hN, hZ⟩ := hS
  intro k
  induction k with
  | zero =>
    intro i sr hd rs rr hi hH
    have h : nI m ≤ nI i := nI_le (by omega) (by omega)
    refine ⟨sr, hd, rs, rr, hH, fun post hp => ?_, fun post hp => ?_⟩
    · rw [wX_startRuns_2]; exact br_t h hp
    · rw [wY_settle_33]; exact br_t h hp
  | succ k ih =>
    intro i sr hd rs rr hi hH
    have h : ¬ nI m ≤ nI i := nI_ge (by omega) (by omega)
    have h32 : i < 32 := by omega
    have e : (nI i).toNatClampNeg = i := nI_clamp (by omega)
    have hv : vp_in (nI i) 32 := vp_in_nI (by omega) (by omega)
    have hr := sg_cr8 hR hC (show i < m by omega)
    have hrd := p2 i h32
    cases hb : bt iw i with
    | false =>
      rw [hb] at hrd
      obtain ⟨sr', hd', rs', rr', hH', hX, hY⟩ := ih (i + 1) sr hd rs rr (by omega) hH
      refine ⟨sr', hd', rs', rr', hH', fun post hp => ?_, fun post hp => ?_⟩
      · rw [wX_startRuns_2]
        refine br_f h (sg_xh h32 ?_)
        rw [hb]
        exact br_t rfl (nm_r (nI_1 i) (hX post hp))
      · rw [wY_settle_33]
        refine br_f h (sg_yw h32 hr (sg_br _ (fun _ => nm_r (nI_1 i) (hY post hp)) (fun _ => ⟨hv, ?_⟩)))
        rw [e]
        exact br_t hrd (nm_r (nI_1 i) (hY post hp))
    | true =>
      rw [hb] at hrd
      have hrd' : ¬ rd i = 0 := by rw [hrd]; decide
      have hw := (p1 i h32 hb).2
      by_cases h0 : hd i = 0
      · obtain ⟨sr', hd', rs', rr', hH', hX, hY⟩ := ih (i + 1) (sr + 1) (upd hd i (sr + 1)) (upd rs i (ex i)) (upd rr i 0) (by omega) (by
          intro c hc hn
          by_cases ec : c = i
          · subst ec
            rw [pk_us]
            exact p3 c hc hb
          · rw [pk_un ec] at hn ⊢
            exact hH c hc hn)
        refine ⟨sr', hd', rs', rr', hH', fun post hp => ?_, fun post hp => ?_⟩
        · rw [wX_startRuns_2]
          refine br_f h (sg_xh h32 ?_)
          rw [hb]
          refine br_f (by decide) ⟨hv, ?_⟩
          rw [e]
          exact br_t h0 (nm_e ⟨hv, nm_e ⟨hv, hv, nm_e ⟨hv, nm_e (nm_r (nI_1 i) (hX post hp))⟩⟩⟩)
        · rw [wY_settle_33]
          refine br_f h (sg_yw h32 hr ?_)
          rw [hw]
          refine br_f (by decide) ⟨hv, ?_⟩
          rw [e]
          exact br_f hrd' ⟨hv, br_t h0 (nm_e ⟨hv, nm_e ⟨hv, nm_e (nm_r (nI_1 i) (hY post hp))⟩⟩)⟩
      · obtain ⟨sr', hd', rs', rr', hH', hX, hY⟩ := ih (i + 1) sr hd rs rr (by omega) hH
        refine ⟨sr', hd', rs', rr', hH', fun post hp => ?_, fun post hp => ?_⟩
        · rw [wX_startRuns_2]
          refine br_f h (sg_xh h32 ?_)
          rw [hb]
          refine br_f (by decide) ⟨hv, ?_⟩
          rw [e]
          exact br_f h0 (nm_r (nI_1 i) (hX post hp))
        · rw [wY_settle_33]
          refine br_f h (sg_yw h32 hr ?_)
          rw [hw]
          refine br_f (by decide) ⟨hv, ?_⟩
          rw [e]
          exact br_f hrd' ⟨hv, br_f h0 (nm_r (nI_1 i) (hY post hp))⟩
theorem sg_stl {g : Nat} (hg : g < 8) (hS : sg_S R m gr cr np nq dn an) : ∀ k i (l : Nat) (iw : Int32) (wn st hd ex lg sa ba ad rd rh : Nat → Int32), i + k = 33 → sg_cnt (sg_wt st) m + i ≤ 32 → l ≤ 32 → sg_R hd rs sa → ∃ (l' : Nat) (sr' iw' : Int32) (wn' st' hd' rs' rr' ex' lg' sa' ba' ad' rd' rh' : Nat → Int32), l' ≤ 32 ∧ sg_R hd' rs' sa' ∧ (∀ post : SX → Prop, post (nI R, nI L, wl, nI l', nI m, sr', iw', gr, wn', cr, st', dn, an, hd', rs', rr', ex', lg') → wX_settle_4 post (nI g) (k + 1) 1 (nI i) (nI R) (nI L) wl (nI l) (nI m) sr iw gr wn cr st dn an hd rs rr ex lg) ∧ (∀ post : SY → Prop, post (nI R, nI L, wl, nI m, sr', nI l', gr, wn', cr, np, nq, st', hd', rr', lg', sa', ba', ad', rd', rh') → wY_settle_4 post (nI g) (k + 1) 1 (nI i) (nI R) (nI L) wl (nI m) sr (nI l) gr wn cr np nq st hd rr lg sa ba ad rd rh) := by
  intro k
  induction k with
  | zero =>
    intro i l iw wn st hd ex lg sa ba ad rd rh hi hc
    omega
  | succ k ih =>
    intro i l iw wn st hd ex lg sa ba ad rd rh hi hc hl hH
    have h32 : ¬ (32 : Int32) < nI i := nI_nlt (b := i) (a := 32) (by omega) (by omega)
    obtain ⟨iw1, hd1, ex1, ba1, ad1, rd1, sa1, hP, rX, rY⟩ := sg_rev (R := R) (L := L) (m := m) (l := l) (wl := wl) (sr := sr) (iw := iw) (gr := gr) (wn := wn) (cr := cr) (st := st) (dn := dn) (an := an) (hd := hd) (rs := rs) (rr := rr) (ex := ex) (lg := lg) (np := np) (nq := nq) (sa := sa) (ba := ba) (ad := ad) (rd := rd) (rh := rh) (g := g) hg hS hH
    obtain ⟨r, l2, wn2, st2, hd2, lg2, rh2, d1, d2, d3, d4, dX, dY⟩ := sg_dec (R := R) (L := L) (m := m) (l := l) (wl := wl) (sr := sr) (iw := iw1) (gr := gr) (wn := wn) (cr := cr) (st := st) (dn := dn) (an := an) (hd := hd1) (rs := rs) (rr := rr) (ex := ex1) (lg := lg) (np := np) (nq := nq) (sa := sa1) (ba := ba1) (ad := ad1) (rd := rd1) (rh := rh) (g := g) hg hS hl
    obtain ⟨q1, q2, q3, q4⟩ := hP
    cases r with
    | false =>
      obtain ⟨e1, e2⟩ := d3 rfl
      subst e1 e2
      obtain ⟨sr', hd', rs', rr', hH', sX, sY⟩ := sg_str (R := R) (L := L) (m := m) (l := l2) (wl := wl) (iw := iw1) (gr := gr) (wn := wn2) (cr := cr) (st := st2) (dn := dn) (an := an) (ex := ex1) (lg := lg2) (np := np) (nq := nq) (sa := sa1) (ba := ba1) (ad := ad1) (rd := rd1) (rh := rh2) (g := g) hS q1 q2 q3 m 0 sr hd2 rs rr (by omega) q4
      refine ⟨l2, sr', iw1, wn2, st2, hd', rs', rr', ex1, lg2, sa1, ba1, ad1, rd1, rh2, d1, hH', fun post hp => ?_, fun post hp => ?_⟩
      · have hs : wX_settle_31 post (nI R) (nI L) wl (nI l2) (nI m) sr iw1 gr wn2 cr st2 dn an hd2 rs rr ex1 lg2 := by
          unfold wX_settle_31 wpX_startRuns
          dsimp only
          exact ⟨m + 1, sX _ hp⟩
        rw [wX_settle_4]
        refine br_f h32 (br_f (by decide) (rX _ (dX _ (nm_r (nI_1 i) ?_))))
        rw [wX_settle_4]
        exact br_c (fun _ => hs) (fun _ => br_t rfl hs)
      · rw [wY_settle_4]
        refine br_f (by decide) (br_f h32 (rY _ (dY _ (nm_r (nI_1 i) ?_))))
        rw [wY_settle_4]
        exact br_t rfl ⟨m + 1, sY post hp⟩
    | true =>
      have hc' := d4 rfl
      obtain ⟨l', sr', iw', wn', st', hd', rs', rr', ex', lg', sa', ba', ad', rd', rh', k1, k2, kX, kY⟩ := ih (i + 1) l2 iw1 wn2 st2 hd2 ex1 lg2 sa1 ba1 ad1 rd1 rh2 (by omega) (by omega) d1 (sg_R0 q4 d2)
      refine ⟨l', sr', iw', wn', st', hd', rs', rr', ex', lg', sa', ba', ad', rd', rh', k1, k2, fun post hp => ?_, fun post hp => ?_⟩
      · rw [wX_settle_4]
        exact br_f h32 (br_f (by decide) (rX _ (dX _ (nm_r (nI_1 i) (kX post hp)))))
      · rw [wY_settle_4]
        exact br_f (by decide) (br_f h32 (rY _ (dY _ (nm_r (nI_1 i) (kY post hp)))))
theorem sg_settle {g : Nat} (hg : g < 8) (hS : sg_S R m gr cr np nq dn an) (hl : l ≤ 32) (hH : sg_R hd rs sa) : ∃ (l' : Nat) (sr' iw' : Int32) (wn' st' hd' rs' rr' ex' lg' sa' ba' ad' rd' rh' : Nat → Int32), l' ≤ 32 ∧ sg_R hd' rs' sa' ∧ (∀ post : SX → Prop, post (nI R, nI L, wl, nI l', nI m, sr', iw', gr, wn', cr, st', dn, an, hd', rs', rr', ex', lg') → wpX_settle post (nI R, nI L, wl, nI l, nI m, sr, iw, gr, wn, cr, st, dn, an, hd, rs, rr, ex, lg) (nI g)) ∧ (∀ post : SY → Prop, post (nI R, nI L, wl, nI m, sr', nI l', gr, wn', cr, np, nq, st', hd', rr', lg', sa', ba', ad', rd', rh') → wpY_settle post (nI R, nI L, wl, nI m, sr, nI l, gr, wn, cr, np, nq, st, hd, rr, lg, sa, ba, ad, rd, rh) (nI g)) := by
  have hc := sg_cnt_le (sg_wt st) m
  have hm := hS.2.1
  obtain ⟨l', sr', iw', wn', st', hd', rs', rr', ex', lg', sa', ba', ad', rd', rh', k1, k2, kX, kY⟩ := sg_stl (R := R) (L := L) (m := m) (wl := wl) (sr := sr) (gr := gr) (cr := cr) (dn := dn) (an := an) (rs := rs) (rr := rr) (np := np) (nq := nq) hg hS 33 0 l iw wn st hd ex lg sa ba ad rd rh (by omega) (by omega) hl hH
  refine ⟨l', sr', iw', wn', st', hd', rs', rr', ex', lg', sa', ba', ad', rd', rh', k1, k2, fun post hp => ?_, fun post hp => ?_⟩
  · unfold wpX_settle
    dsimp only
    exact ⟨34, kX post hp⟩
  · unfold wpY_settle
    dsimp only
    exact ⟨34, kY post hp⟩
end
end
section
/-! the relation, and the methods that only read -/
def i_Rel (_ : Nat) (u : SX) (v : SY) : Prop := ∃ (R L m l : Nat) (wl sr iw : Int32) (gr wn cr st dn an hd rs rr ex lg np nq sa ba ad rd rh : Nat → Int32), u = (nI R, nI L, wl, nI l, nI m, sr, iw, gr, wn, cr, st, dn, an, hd, rs, rr, ex, lg) ∧ v = (nI R, nI L, wl, nI m, sr, nI l, gr, wn, cr, np, nq, st, hd, rr, lg, sa, ba, ad, rd, rh) ∧ sg_S R m gr cr np nq dn an ∧ L ≤ 32 ∧ l ≤ 32 ∧ sg_R hd rs sa
theorem i_up {k : Nat} {u : SX} {v : SY} (h : i_Rel k u v) : i_Rel (k + 4) u v := h
theorem sg_el {k : Nat} {u : SX} {v : SY} {P : SX → SY → Prop} (h : ∀ (R L m l : Nat) (wl sr iw : Int32) (gr wn cr st dn an hd rs rr ex lg np nq sa ba ad rd rh : Nat → Int32), sg_S R m gr cr np nq dn an → L ≤ 32 → l ≤ 32 → sg_R hd rs sa → P (nI R, nI L, wl, nI l, nI m, sr, iw, gr, wn, cr, st, dn, an, hd, rs, rr, ex, lg) (nI R, nI L, wl, nI m, sr, nI l, gr, wn, cr, np, nq, st, hd, rr, lg, sa, ba, ad, rd, rh)) (I : i_Rel k u v) : P u v :=
  I.elim fun R I => I.elim fun L I => I.elim fun m I => I.elim fun l I => I.elim fun wl I => I.elim fun sr I => I.elim fun iw I => I.elim fun gr I => I.elim fun wn I => I.elim fun cr I => I.elim fun st I => I.elim fun dn I => I.elim fun an I => I.elim fun hd I => I.elim fun rs I => I.elim fun rr I => I.elim fun ex I => I.elim fun lg I => I.elim fun np I => I.elim fun nq I => I.elim fun sa I => I.elim fun ba I => I.elim fun ad I => I.elim fun rd I => I.elim fun rh I => by
    rw [I.1, I.2.1]
    exact h R L m l wl sr iw gr wn cr st dn an hd rs rr ex lg np nq sa ba ad rd rh I.2.2.1 I.2.2.2.1 I.2.2.2.2.1 I.2.2.2.2.2
section
variable {R L m l : Nat} {wl sr iw : Int32} {gr wn cr st dn an hd rs rr ex lg np nq sa ba ad rd rh : Nat → Int32}
theorem sg_in (k : Nat) (hS : sg_S R m gr cr np nq dn an) (hL : L ≤ 32) (hl : l ≤ 32) (hH : sg_R hd rs sa) : i_Rel k (nI R, nI L, wl, nI l, nI m, sr, iw, gr, wn, cr, st, dn, an, hd, rs, rr, ex, lg) (nI R, nI L, wl, nI m, sr, nI l, gr, wn, cr, np, nq, st, hd, rr, lg, sa, ba, ad, rd, rh) :=
  ⟨R, L, m, l, wl, sr, iw, gr, wn, cr, st, dn, an, hd, rs, rr, ex, lg, np, nq, sa, ba, ad, rd, rh, rfl, rfl, hS, hL, hl, hH⟩
end
theorem i_vc_status {k : Nat} {u : SX} {v : SY} (I : i_Rel k u v) (hk : k + 4 ≤ 2052) (v1 : Int32) : wpX_status (fun r => wpY_status (fun r' => r' = r ∧ i_Rel (k + 4) u v) v v1) u v1 := by
  refine sg_el (P := fun u v => wpX_status (fun r => wpY_status (fun r' => r' = r ∧ i_Rel (k + 4) u v) v v1) u v1) ?_ I
  intro R L m l wl sr iw gr wn cr st dn an hd rs rr ex lg np nq sa ba ad rd rh hS hL hl hH
  have hm := hS.2.1
  have K := sg_in (R := R) (L := L) (m := m) (l := l) (wl := wl) (sr := sr) (iw := iw) (gr := gr) (wn := wn) (cr := cr) (st := st) (dn := dn) (an := an) (hd := hd) (rs := rs) (rr := rr) (ex := ex) (lg := lg) (np := np) (nq := nq) (sa := sa) (ba := ba) (ad := ad) (rd := rd) (rh := rh) (k + 4) hS hL hl hH
  unfold wpX_status wpY_status
  dsimp only
  by_cases h : ∃ j, j < m ∧ v1 = nI j
  · obtain ⟨j, hj, rfl⟩ := h
    have hv : vp_in (nI j) 32 := vp_in_nI (by omega) (by omega)
    exact sg_xc1 (by omega) hj (br_f (by decide) ⟨hv, sg_yc1 (by omega) hj (br_f (by decide) ⟨hv, rfl, K⟩)⟩)
  · exact sg_xc0 (by omega) h (br_t rfl (sg_yc0 (by omega) h (br_t rfl ⟨rfl, K⟩)))
theorem i_vc_repoOf {k : Nat} {u : SX} {v : SY} (I : i_Rel k u v) (hk : k + 4 ≤ 2052) (v1 : Int32) : wpX_repoOf (fun r => wpY_repoOf (fun r' => r' = r ∧ i_Rel (k + 4) u v) v v1) u v1 := by
  refine sg_el (P := fun u v => wpX_repoOf (fun r => wpY_repoOf (fun r' => r' = r ∧ i_Rel (k + 4) u v) v v1) u v1) ?_ I
  intro R L m l wl sr iw gr wn cr st dn an hd rs rr ex lg np nq sa ba ad rd rh hS hL hl hH
  have hm := hS.2.1
  have K := sg_in (R := R) (L := L) (m := m) (l := l) (wl := wl) (sr := sr) (iw := iw) (gr := gr) (wn := wn) (cr := cr) (st := st) (dn := dn) (an := an) (hd := hd) (rs := rs) (rr := rr) (ex := ex) (lg := lg) (np := np) (nq := nq) (sa := sa) (ba := ba) (ad := ad) (rd := rd) (rh := rh) (k + 4) hS hL hl hH
  unfold wpX_repoOf wpY_repoOf
  dsimp only
  by_cases h : ∃ j, j < m ∧ v1 = nI j
  · obtain ⟨j, hj, rfl⟩ := h
    have hv : vp_in (nI j) 32 := vp_in_nI (by omega) (by omega)
    exact sg_xc1 (by omega) hj (br_f (by decide) ⟨hv, sg_yc1 (by omega) hj (br_f (by decide) ⟨hv, rfl, K⟩)⟩)
  · exact sg_xc0 (by omega) h (br_t rfl (sg_yc0 (by omega) h (br_t rfl ⟨rfl, K⟩)))
theorem i_vc_needs {k : Nat} {u : SX} {v : SY} (I : i_Rel k u v) (hk : k + 4 ≤ 2052) (v1 : Int32) (v2 : Int32) : wpX_needs (fun r => wpY_needs (fun r' v' => r' = r ∧ i_Rel (k + 4) u v') v v1 v2) u v1 v2 := by
  refine sg_el (P := fun u v => wpX_needs (fun r => wpY_needs (fun r' v' => r' = r ∧ i_Rel (k + 4) u v') v v1 v2) u v1 v2) ?_ I
  intro R L m l wl sr iw gr wn cr st dn an hd rs rr ex lg np nq sa ba ad rd rh hS hL hl hH
  have hm := hS.2.1
  have K := sg_in (R := R) (L := L) (m := m) (l := l) (wl := wl) (sr := sr) (iw := iw) (gr := gr) (wn := wn) (cr := cr) (st := st) (dn := dn) (an := an) (hd := hd) (rs := rs) (rr := rr) (ex := ex) (lg := lg) (np := np) (nq := nq) (sa := sa) (ba := ba) (ad := ad) (rd := rd) (rh := rh) (k + 4) hS hL hl hH
  unfold wpX_needs
  dsimp only
  by_cases h : ∃ j, j < m ∧ v1 = nI j
  · obtain ⟨j, hj, rfl⟩ := h
    have hv : vp_in (nI j) 32 := vp_in_nI (by omega) (by omega)
    refine sg_xc1 (by omega) hj (br_f (by decide) ?_)
    by_cases h2 : ∃ j, j < m ∧ v2 = nI j
    · obtain ⟨o, ho, rfl⟩ := h2
      obtain ⟨rh', hn⟩ := sg_needs (R := R) (L := L) (m := m) (l := l) (wl := wl) (sr := sr) (gr := gr) (wn := wn) (cr := cr) (st := st) (dn := dn) (an := an) (hd := hd) (rr := rr) (lg := lg) (np := np) (nq := nq) (sa := sa) (ba := ba) (ad := ad) (rd := rd) (rh := rh) hm hS.2.2.2.2.1 ho hj
      have K2 := sg_in (R := R) (L := L) (m := m) (l := l) (wl := wl) (sr := sr) (iw := iw) (gr := gr) (wn := wn) (cr := cr) (st := st) (dn := dn) (an := an) (hd := hd) (rs := rs) (rr := rr) (ex := ex) (lg := lg) (np := np) (nq := nq) (sa := sa) (ba := ba) (ad := ad) (rd := rd) (rh := rh') (k + 4) hS hL hl hH
      refine sg_xc1 (by omega) ho (br_f (by decide) ⟨hv, sg_xh (by omega) ?_⟩)
      rw [nI_clamp (show j < 2 ^ 31 by omega)]
      cases hb : bt (an j) o with
      | false =>
        rw [hb] at hn
        exact br_t rfl (hn _ ⟨rfl, K2⟩)
      | true =>
        rw [hb] at hn
        exact br_f (by decide) (hn _ ⟨rfl, K2⟩)
    · refine sg_xc0 (by omega) h2 (br_t rfl ?_)
      unfold wpY_needs
      dsimp only
      exact sg_yc1 (by omega) hj (br_f (by decide) (sg_yc0 (by omega) h2 (br_t rfl ⟨rfl, K⟩)))
  · refine sg_xc0 (by omega) h (br_t rfl ?_)
    unfold wpY_needs
    dsimp only
    exact sg_yc0 (by omega) h (br_t rfl ⟨rfl, K⟩)
theorem i_vc_place {k : Nat} {u : SX} {v : SY} (I : i_Rel k u v) (hk : k + 4 ≤ 2052) (v1 : Int32) : wpX_place (fun r => wpY_place (fun r' => r' = r ∧ i_Rel (k + 4) u v) v v1) u v1 := by
  refine sg_el (P := fun u v => wpX_place (fun r => wpY_place (fun r' => r' = r ∧ i_Rel (k + 4) u v) v v1) u v1) ?_ I
  intro R L m l wl sr iw gr wn cr st dn an hd rs rr ex lg np nq sa ba ad rd rh hS hL hl hH
  have hm := hS.2.1
  have K := sg_in (R := R) (L := L) (m := m) (l := l) (wl := wl) (sr := sr) (iw := iw) (gr := gr) (wn := wn) (cr := cr) (st := st) (dn := dn) (an := an) (hd := hd) (rs := rs) (rr := rr) (ex := ex) (lg := lg) (np := np) (nq := nq) (sa := sa) (ba := ba) (ad := ad) (rd := rd) (rh := rh) (k + 4) hS hL hl hH
  have hR := hS.1
  have hC := hS.2.2.2.1
  unfold wpX_place
  dsimp only
  by_cases h : ∃ j, j < m ∧ v1 = nI j
  · obtain ⟨j, hj, rfl⟩ := h
    have hv : vp_in (nI j) 32 := vp_in_nI (by omega) (by omega)
    have e : (nI j).toNatClampNeg = j := nI_clamp (by omega)
    refine sg_xq1 hm hj (fun h0 => br_t rfl ⟨hv, ?_⟩) (fun h0 => br_f (by decide) ?_)
    · rw [e]
      refine ⟨sg_cr8 hR hC hj, nm_e ⟨j + 1, sg_xpl hR hm hC hj j 0 (by omega) ?_⟩⟩
      exact sg_yplace hR hm hC hj h0 ⟨rfl, K⟩
    · unfold wpY_place
      dsimp only
      refine sg_yc1 (by omega) hj (br_f (by decide) ⟨hv, ?_⟩)
      rw [e]
      exact br_f h0 ⟨rfl, K⟩
  · refine sg_xq0 hm h (br_f (by decide) ?_)
    unfold wpY_place
    dsimp only
    exact sg_yc0 (by omega) h (br_t rfl ⟨rfl, K⟩)
theorem i_vc_runOf {k : Nat} {u : SX} {v : SY} (I : i_Rel k u v) (hk : k + 4 ≤ 2052) (v1 : Int32) : wpX_runOf (fun r => wpY_runOf (fun r' => r' = r ∧ i_Rel (k + 4) u v) v v1) u v1 := by
  refine sg_el (P := fun u v => wpX_runOf (fun r => wpY_runOf (fun r' => r' = r ∧ i_Rel (k + 4) u v) v v1) u v1) ?_ I
  intro R L m l wl sr iw gr wn cr st dn an hd rs rr ex lg np nq sa ba ad rd rh hS hL hl hH
  have hm := hS.2.1
  have K := sg_in (R := R) (L := L) (m := m) (l := l) (wl := wl) (sr := sr) (iw := iw) (gr := gr) (wn := wn) (cr := cr) (st := st) (dn := dn) (an := an) (hd := hd) (rs := rs) (rr := rr) (ex := ex) (lg := lg) (np := np) (nq := nq) (sa := sa) (ba := ba) (ad := ad) (rd := rd) (rh := rh) (k + 4) hS hL hl hH
  unfold wpX_runOf wpY_runOf
  dsimp only
  by_cases h : ∃ j, j < m ∧ v1 = nI j
  · obtain ⟨j, hj, rfl⟩ := h
    have hv : vp_in (nI j) 32 := vp_in_nI (by omega) (by omega)
    have e : (nI j).toNatClampNeg = j := nI_clamp (by omega)
    rw [e]
    exact sg_xq1 hm hj (fun h0 => br_t rfl ⟨hv, sg_yc1 (by omega) hj (br_f (by decide) ⟨hv, br_t h0 ⟨hv, rfl, K⟩⟩)⟩) (fun h0 => br_f (by decide) (sg_yc1 (by omega) hj (br_f (by decide) ⟨hv, br_f h0 ⟨rfl, K⟩⟩)))
  · exact sg_xq0 hm h (br_f (by decide) (sg_yc0 (by omega) h (br_t rfl ⟨rfl, K⟩)))
theorem i_vc_result {k : Nat} {u : SX} {v : SY} (I : i_Rel k u v) (hk : k + 4 ≤ 2052) (v1 : Int32) : wpX_result (fun r => wpY_result (fun r' => r' = r ∧ i_Rel (k + 4) u v) v v1) u v1 := by
  refine sg_el (P := fun u v => wpX_result (fun r => wpY_result (fun r' => r' = r ∧ i_Rel (k + 4) u v) v v1) u v1) ?_ I
  intro R L m l wl sr iw gr wn cr st dn an hd rs rr ex lg np nq sa ba ad rd rh hS hL hl hH
  have hm := hS.2.1
  have K := sg_in (R := R) (L := L) (m := m) (l := l) (wl := wl) (sr := sr) (iw := iw) (gr := gr) (wn := wn) (cr := cr) (st := st) (dn := dn) (an := an) (hd := hd) (rs := rs) (rr := rr) (ex := ex) (lg := lg) (np := np) (nq := nq) (sa := sa) (ba := ba) (ad := ad) (rd := rd) (rh := rh) (k + 4) hS hL hl hH
  obtain ⟨r, hr, hX, hY⟩ := sg_hold (R := R) (L := L) (m := m) (l := l) (wl := wl) (sr := sr) (iw := iw) (gr := gr) (wn := wn) (cr := cr) (st := st) (dn := dn) (an := an) (hd := hd) (rs := rs) (rr := rr) (ex := ex) (lg := lg) (np := np) (nq := nq) (sa := sa) (ba := ba) (ad := ad) (rd := rd) (rh := rh) v1 hm
  unfold wpX_result wpY_result
  dsimp only
  rcases hr with h | ⟨c, hc, rfl, hn⟩
  · exact hX _ (br_f h (hY _ (br_f h ⟨rfl, K⟩)))
  · have hv : vp_in (nI c) 32 := vp_in_nI (by omega) (by omega)
    have h0 : (0 : Int32) ≤ nI c := nI_pos' (by omega)
    exact hX _ (br_t h0 ⟨hv, hY _ (br_t h0 ⟨hv, rfl, K⟩)⟩)
theorem i_vc_includes {k : Nat} {u : SX} {v : SY} (I : i_Rel k u v) (hk : k + 4 ≤ 2052) (v1 : Int32) (v2 : Int32) : wpX_includes (fun r => wpY_includes (fun r' => r' = r ∧ i_Rel (k + 4) u v) v v1 v2) u v1 v2 := by
  refine sg_el (P := fun u v => wpX_includes (fun r => wpY_includes (fun r' => r' = r ∧ i_Rel (k + 4) u v) v v1 v2) u v1 v2) ?_ I
  intro R L m l wl sr iw gr wn cr st dn an hd rs rr ex lg np nq sa ba ad rd rh hS hL hl hH
  have hm := hS.2.1
  have K := sg_in (R := R) (L := L) (m := m) (l := l) (wl := wl) (sr := sr) (iw := iw) (gr := gr) (wn := wn) (cr := cr) (st := st) (dn := dn) (an := an) (hd := hd) (rs := rs) (rr := rr) (ex := ex) (lg := lg) (np := np) (nq := nq) (sa := sa) (ba := ba) (ad := ad) (rd := rd) (rh := rh) (k + 4) hS hL hl hH
  obtain ⟨r, hr, hX, hY⟩ := sg_hold (R := R) (L := L) (m := m) (l := l) (wl := wl) (sr := sr) (iw := iw) (gr := gr) (wn := wn) (cr := cr) (st := st) (dn := dn) (an := an) (hd := hd) (rs := rs) (rr := rr) (ex := ex) (lg := lg) (np := np) (nq := nq) (sa := sa) (ba := ba) (ad := ad) (rd := rd) (rh := rh) v1 hm
  unfold wpX_includes wpY_includes
  dsimp only
  rcases hr with h | ⟨c, hc, rfl, hn⟩
  · exact hX _ (br_f h (hY _ (br_f h ⟨rfl, K⟩)))
  · have hv : vp_in (nI c) 32 := vp_in_nI (by omega) (by omega)
    have h0 : (0 : Int32) ≤ nI c := nI_pos' (by omega)
    have e : (nI c).toNatClampNeg = c := nI_clamp (by omega)
    by_cases h2 : ∃ j, j < m ∧ v2 = nI j
    · obtain ⟨o, ho, rfl⟩ := h2
      have hrow := hH c (by omega) hn o (by omega)
      refine hX _ (br_t h0 (sg_xc1 (by omega) ho (br_f (by decide) ⟨hv, sg_xh (by omega) ?_⟩)))
      rw [e]
      refine sg_br _ (fun b => hY _ (br_t h0 (sg_yc1 (by omega) ho (br_f (by decide) ?_)))) (fun b => hY _ (br_t h0 (sg_yc1 (by omega) ho (br_f (by decide) ?_))))
      · rw [sg_ad, nI_clamp (show c * 32 + o < 2 ^ 31 by omega), hrow, b]
        exact ⟨vp_in_nI (by omega) (by omega), br_t rfl ⟨rfl, K⟩⟩
      · rw [sg_ad, nI_clamp (show c * 32 + o < 2 ^ 31 by omega), hrow, b]
        exact ⟨vp_in_nI (by omega) (by omega), br_f (by decide) ⟨rfl, K⟩⟩
    · exact hX _ (br_t h0 (sg_xc0 (by omega) h2 (br_t rfl (hY _ (br_t h0 (sg_yc0 (by omega) h2 (br_t rfl ⟨rfl, K⟩)))))))
theorem i_vc_group {k : Nat} {u : SX} {v : SY} (I : i_Rel k u v) (hk : k + 4 ≤ 2052) (v1 : Int32) : wpX_group (fun r => wpY_group (fun r' => r' = r ∧ i_Rel (k + 4) u v) v v1) u v1 := by
  refine sg_el (P := fun u v => wpX_group (fun r => wpY_group (fun r' => r' = r ∧ i_Rel (k + 4) u v) v v1) u v1) ?_ I
  intro R L m l wl sr iw gr wn cr st dn an hd rs rr ex lg np nq sa ba ad rd rh hS hL hl hH
  have hR := hS.1
  have K := sg_in (R := R) (L := L) (m := m) (l := l) (wl := wl) (sr := sr) (iw := iw) (gr := gr) (wn := wn) (cr := cr) (st := st) (dn := dn) (an := an) (hd := hd) (rs := rs) (rr := rr) (ex := ex) (lg := lg) (np := np) (nq := nq) (sa := sa) (ba := ba) (ad := ad) (rd := rd) (rh := rh) (k + 4) hS hL hl hH
  unfold wpX_group wpY_group
  dsimp only
  by_cases h : ∃ j, j < R ∧ v1 = nI j
  · obtain ⟨j, hj, rfl⟩ := h
    have hv : vp_in (nI j) 8 := vp_in_nI (by omega) (by omega)
    exact sg_xr1 (by omega) hj (br_f (by decide) ⟨hv, sg_yr1 (by omega) hj (br_f (by decide) ⟨hv, rfl, K⟩)⟩)
  · exact sg_xr0 (by omega) h (br_t rfl (sg_yr0 (by omega) h (br_t rfl ⟨rfl, K⟩)))
theorem i_vc_window {k : Nat} {u : SX} {v : SY} (I : i_Rel k u v) (hk : k + 4 ≤ 2052) (v1 : Int32) : wpX_window (fun r => wpY_window (fun r' => r' = r ∧ i_Rel (k + 4) u v) v v1) u v1 := by
  refine sg_el (P := fun u v => wpX_window (fun r => wpY_window (fun r' => r' = r ∧ i_Rel (k + 4) u v) v v1) u v1) ?_ I
  intro R L m l wl sr iw gr wn cr st dn an hd rs rr ex lg np nq sa ba ad rd rh hS hL hl hH
  have hR := hS.1
  have K := sg_in (R := R) (L := L) (m := m) (l := l) (wl := wl) (sr := sr) (iw := iw) (gr := gr) (wn := wn) (cr := cr) (st := st) (dn := dn) (an := an) (hd := hd) (rs := rs) (rr := rr) (ex := ex) (lg := lg) (np := np) (nq := nq) (sa := sa) (ba := ba) (ad := ad) (rd := rd) (rh := rh) (k + 4) hS hL hl hH
  unfold wpX_window wpY_window
  dsimp only
  by_cases h : ∃ j, j < R ∧ v1 = nI j
  · obtain ⟨j, hj, rfl⟩ := h
    have hv : vp_in (nI j) 8 := vp_in_nI (by omega) (by omega)
    have hv2 : vp_in (gr (nI j).toNatClampNeg) 8 := by
      obtain ⟨g, hg, e⟩ := hS.2.2.1.1 j hj
      rw [nI_clamp (show j < 2 ^ 31 by omega), e]
      exact vp_in_nI (by omega) (by omega)
    exact sg_xr1 (by omega) hj (br_f (by decide) ⟨hv, hv2, sg_yr1 (by omega) hj (br_f (by decide) ⟨hv, hv2, rfl, K⟩)⟩)
  · exact sg_xr0 (by omega) h (br_t rfl (sg_yr0 (by omega) h (br_t rfl ⟨rfl, K⟩)))
theorem i_vc_decision {k : Nat} {u : SX} {v : SY} (I : i_Rel k u v) (hk : k + 4 ≤ 2052) (v1 : Int32) : wpX_decision (fun r => wpY_decision (fun r' => r' = r ∧ i_Rel (k + 4) u v) v v1) u v1 := by
  refine sg_el (P := fun u v => wpX_decision (fun r => wpY_decision (fun r' => r' = r ∧ i_Rel (k + 4) u v) v v1) u v1) ?_ I
  intro R L m l wl sr iw gr wn cr st dn an hd rs rr ex lg np nq sa ba ad rd rh hS hL hl hH
  have K := sg_in (R := R) (L := L) (m := m) (l := l) (wl := wl) (sr := sr) (iw := iw) (gr := gr) (wn := wn) (cr := cr) (st := st) (dn := dn) (an := an) (hd := hd) (rs := rs) (rr := rr) (ex := ex) (lg := lg) (np := np) (nq := nq) (sa := sa) (ba := ba) (ad := ad) (rd := rd) (rh := rh) (k + 4) hS hL hl hH
  unfold wpX_decision wpY_decision
  dsimp only
  by_cases h0 : v1 < 0
  · exact br_t h0 (br_t h0 ⟨rfl, K⟩)
  · by_cases h1 : nI l ≤ v1
    · exact br_f h0 (br_t h1 (br_f h0 (br_t h1 ⟨rfl, K⟩)))
    · have hv : vp_in v1 32 := by
        obtain ⟨j, hj, rfl⟩ := nI_of h0
        rw [nI_leI (by omega) hj] at h1
        exact vp_in_nI (by omega) (by omega)
      exact br_f h0 (br_f h1 ⟨hv, br_f h0 (br_f h1 ⟨hv, rfl, K⟩)⟩)
theorem i_vc_runs {k : Nat} {u : SX} {v : SY} (I : i_Rel k u v) (hk : k + 4 ≤ 2052) : wpX_runs (fun r => wpY_runs (fun r' => r' = r ∧ i_Rel (k + 4) u v) v) u := by
  refine sg_el (P := fun u v => wpX_runs (fun r => wpY_runs (fun r' => r' = r ∧ i_Rel (k + 4) u v) v) u) ?_ I
  intro R L m l wl sr iw gr wn cr st dn an hd rs rr ex lg np nq sa ba ad rd rh hS hL hl hH
  have K := sg_in (R := R) (L := L) (m := m) (l := l) (wl := wl) (sr := sr) (iw := iw) (gr := gr) (wn := wn) (cr := cr) (st := st) (dn := dn) (an := an) (hd := hd) (rs := rs) (rr := rr) (ex := ex) (lg := lg) (np := np) (nq := nq) (sa := sa) (ba := ba) (ad := ad) (rd := rd) (rh := rh) (k + 4) hS hL hl hH
  unfold wpX_runs wpY_runs
  exact ⟨rfl, K⟩
end
section
/-! tip -/
section
variable {R L m l : Nat} {wl sr iw : Int32} {gr wn cr st dn an hd rs rr ex lg np nq sa ba ad rd rh : Nat → Int32}
theorem sg_tipl {p x3 s : Int32} {q : Int32} (hm : m ≤ 32) (hst : ∀ (post : Int32 → Prop) (n d : Nat), d < m → ∃ z : Int32, (z = 0 ↔ bt s d = false) ∧ (wY_tip_78 post (wY_tip_38 post p q x3 (nI R) (nI L) wl (nI m) sr (nI l) gr wn cr np nq st hd rr lg sa ba ad rd rh n) p q x3 (nI d) z (nI R) (nI L) wl (nI m) sr (nI l) gr wn cr np nq st hd rr lg sa ba ad rd rh → wY_tip_38 post p q x3 (nI R) (nI L) wl (nI m) sr (nI l) gr wn cr np nq st hd rr lg sa ba ad rd rh (n + 1) (nI d))) : ∀ j, j ≤ m → ∃ r : Int32, (∀ post : Int32 → Prop, post r → wX_tip_53 post q s (nI R) (nI L) wl (nI l) (nI m) sr iw gr wn cr st dn an hd rs rr ex lg (j + 1) (nI j - 1)) ∧ (∀ post : Int32 → Prop, post r → wY_tip_38 post p q x3 (nI R) (nI L) wl (nI m) sr (nI l) gr wn cr np nq st hd rr lg sa ba ad rd rh (j + 1) (nI j - 1)) := by
  intro j
  induction j with
  | zero =>
    intro _
    have h : nI 0 - 1 < 0 := by decide
    refine ⟨-11, fun post hp => ?_, fun post hp => ?_⟩
    · rw [wX_tip_53]; exact br_t h hp
    · rw [wY_tip_38]; exact br_t h hp
  | succ j ih =>
    intro hj
    rw [nI_pred]
    have e : (nI j).toNatClampNeg = j := nI_clamp (by omega)
    have hv : vp_in (nI j) 32 := vp_in_nI (by omega) (by omega)
    have hnn : ¬ nI j < 0 := nI_pos (by omega)
    have h32 : j < 32 := by omega
    have em : nI j + (-1) = nI j - 1 := (Int32.sub_eq_add_neg _ _).symm
    obtain ⟨r, hX, hY⟩ := ih (by omega)
    cases hb : bt s j with
    | false =>
      refine ⟨r, fun post hp => ?_, fun post hp => ?_⟩
      · rw [wX_tip_53]
        refine br_f hnn ⟨hv, ?_⟩
        rw [e]
        refine br_c (fun _ => sg_xh h32 ?_) (fun _ => nm_r em (hX post hp))
        rw [hb]
        exact br_t rfl (nm_r em (hX post hp))
      · obtain ⟨z, hz, hk⟩ := hst post (j + 1) j (by omega)
        refine hk ?_
        unfold wY_tip_78
        exact br_t (hz.mpr hb) (nm_r em (hY post hp))
    | true =>
      have hz0 : ∀ z : Int32, (z = 0 ↔ bt s j = false) → ¬ z = 0 := fun z hz h => by
        rw [hz.mp h] at hb
        exact absurd hb (by decide)
      by_cases hc : cr j = q
      · refine ⟨nI j, fun post hp => ?_, fun post hp => ?_⟩
        · rw [wX_tip_53]
          refine br_f hnn ⟨hv, ?_⟩
          rw [e]
          refine br_t hc (sg_xh h32 ?_)
          rw [hb]
          exact br_f (by decide) hp
        · obtain ⟨z, hz, hk⟩ := hst post (j + 1) j (by omega)
          refine hk ?_
          unfold wY_tip_78
          rw [e]
          exact br_f (hz0 z hz) ⟨hv, br_t hc hp⟩
      · refine ⟨r, fun post hp => ?_, fun post hp => ?_⟩
        · rw [wX_tip_53]
          refine br_f hnn ⟨hv, ?_⟩
          rw [e]
          exact br_f hc (nm_r em (hX post hp))
        · obtain ⟨z, hz, hk⟩ := hst post (j + 1) j (by omega)
          refine hk ?_
          unfold wY_tip_78
          rw [e]
          exact br_f (hz0 z hz) ⟨hv, br_f hc (nm_r em (hY post hp))⟩
end
theorem i_vc_tip {k : Nat} {u : SX} {v : SY} (I : i_Rel k u v) (hk : k + 4 ≤ 2052) (v1 : Int32) (v2 : Int32) : wpX_tip (fun r => wpY_tip (fun r' => r' = r ∧ i_Rel (k + 4) u v) v v1 v2) u v1 v2 := by
  refine sg_el (P := fun u v => wpX_tip (fun r => wpY_tip (fun r' => r' = r ∧ i_Rel (k + 4) u v) v v1 v2) u v1 v2) ?_ I
  intro R L m l wl sr iw gr wn cr st dn an hd rs rr ex lg np nq sa ba ad rd rh hS hL hl hH
  have hR := hS.1
  have hm := hS.2.1
  have K := sg_in (R := R) (L := L) (m := m) (l := l) (wl := wl) (sr := sr) (iw := iw) (gr := gr) (wn := wn) (cr := cr) (st := st) (dn := dn) (an := an) (hd := hd) (rs := rs) (rr := rr) (ex := ex) (lg := lg) (np := np) (nq := nq) (sa := sa) (ba := ba) (ad := ad) (rd := rd) (rh := rh) (k + 4) hS hL hl hH
  by_cases h0 : v1 = 0
  · subst h0
    unfold wpX_tip
    dsimp only
    refine br_t rfl (sg_am hm (fun s hs => ?_))
    unfold wX_tip_35
    by_cases h2 : ∃ j, j < R ∧ v2 = nI j
    · obtain ⟨q, hq, rfl⟩ := h2
      obtain ⟨r, hX, hY⟩ := sg_tipl (R := R) (L := L) (m := m) (l := l) (wl := wl) (sr := sr) (iw := iw) (gr := gr) (wn := wn) (cr := cr) (st := st) (dn := dn) (an := an) (hd := hd) (rs := rs) (rr := rr) (ex := ex) (lg := lg) (np := np) (nq := nq) (sa := sa) (ba := ba) (ad := ad) (rd := rd) (rh := rh) (p := 0) (x3 := 0) (s := s) (q := nI q) hm (by
        intro post n d hd
        have e : (nI d).toNatClampNeg = d := nI_clamp (by omega)
        have hv : vp_in (nI d) 32 := vp_in_nI (by omega) (by omega)
        refine ⟨sg_i (bt s d), sg_i0, fun h => ?_⟩
        rw [wY_tip_38]
        refine br_f (nI_pos (by omega)) (br_t rfl ⟨hv, ?_⟩)
        rw [hs d (by omega), decide_eq_true hd, Bool.true_and] at h
        rw [e]
        refine br_c (fun z => ?_) (fun z => ?_)
        · rw [decide_eq_true z] at h; exact h
        · rw [decide_eq_false z] at h; exact h) m (Nat.le_refl m)
      refine sg_xr1 (by omega) hq (br_f (by decide) (nm_e ⟨m + 1, hX _ ?_⟩))
      unfold wpY_tip
      dsimp only
      refine br_t rfl ?_
      unfold wY_tip_13
      exact br_t (by decide) (sg_yr1 (by omega) hq (br_f (by decide) (nm_e ⟨m + 1, hY _ ⟨rfl, K⟩⟩)))
    · refine sg_xr0 (by omega) h2 (br_t rfl ?_)
      unfold wpY_tip
      dsimp only
      refine br_t rfl ?_
      unfold wY_tip_13
      exact br_t (by decide) (sg_yr0 (by omega) h2 (br_t rfl ⟨rfl, K⟩))
  · obtain ⟨r, hr, hX, hY⟩ := sg_hold (R := R) (L := L) (m := m) (l := l) (wl := wl) (sr := sr) (iw := iw) (gr := gr) (wn := wn) (cr := cr) (st := st) (dn := dn) (an := an) (hd := hd) (rs := rs) (rr := rr) (ex := ex) (lg := lg) (np := np) (nq := nq) (sa := sa) (ba := ba) (ad := ad) (rd := rd) (rh := rh) v1 hm
    unfold wpX_tip
    dsimp only
    rcases hr with h | ⟨c, hc, rfl, hn⟩
    · refine br_f h0 (hX _ (br_f h ?_))
      unfold wpY_tip
      dsimp only
      refine br_f h0 (hY _ ?_)
      unfold wY_tip_13
      exact br_f h ⟨rfl, K⟩
    · have hv : vp_in (nI c) 32 := vp_in_nI (by omega) (by omega)
      have hn0 : (0 : Int32) ≤ nI c := nI_pos' (by omega)
      have e : (nI c).toNatClampNeg = c := nI_clamp (by omega)
      have hrow := hH c (by omega) hn
      refine br_f h0 (hX _ (br_t hn0 ⟨hv, ?_⟩))
      rw [e]
      refine nm_e ?_
      unfold wX_tip_35
      by_cases h2 : ∃ j, j < R ∧ v2 = nI j
      · obtain ⟨q, hq, rfl⟩ := h2
        obtain ⟨r, tX, tY⟩ := sg_tipl (R := R) (L := L) (m := m) (l := l) (wl := wl) (sr := sr) (iw := iw) (gr := gr) (wn := wn) (cr := cr) (st := st) (dn := dn) (an := an) (hd := hd) (rs := rs) (rr := rr) (ex := ex) (lg := lg) (np := np) (nq := nq) (sa := sa) (ba := ba) (ad := ad) (rd := rd) (rh := rh) (p := v1) (x3 := nI c) (s := rs c) (q := nI q) hm (by
          intro post n d hd
          refine ⟨sg_i (bt (rs c) d), sg_i0, fun h => ?_⟩
          rw [wY_tip_38]
          refine br_f (nI_pos (by omega)) (br_f h0 ?_)
          rw [sg_ad, nI_clamp (show c * 32 + d < 2 ^ 31 by omega), hrow d (by omega)]
          exact ⟨vp_in_nI (by omega) (by omega), h⟩) m (Nat.le_refl m)
        refine sg_xr1 (by omega) hq (br_f (by decide) (nm_e ⟨m + 1, tX _ ?_⟩))
        unfold wpY_tip
        dsimp only
        refine br_f h0 (hY _ ?_)
        unfold wY_tip_13
        exact br_t hn0 (sg_yr1 (by omega) hq (br_f (by decide) (nm_e ⟨m + 1, tY _ ⟨rfl, K⟩⟩)))
      · refine sg_xr0 (by omega) h2 (br_t rfl ?_)
        unfold wpY_tip
        dsimp only
        refine br_f h0 (hY _ ?_)
        unfold wY_tip_13
        exact br_t hn0 (sg_yr0 (by omega) h2 (br_t rfl ⟨rfl, K⟩))
end
section
/-! share -/
section
variable {R L m l : Nat} {wl sr iw : Int32} {gr wn cr st dn an hd rs rr ex lg np nq sa ba ad rd rh : Nat → Int32}
theorem sg_joinl {lo hi : Nat} (hR : R ≤ 8) (hlo : lo < R) (hhi : hi < R) : ∀ k i (gr : Nat → Int32), i + k = R → sg_G R gr → ∃ gr' : Nat → Int32, sg_G R gr' ∧ (∀ post : SX → Prop, post (nI R, nI L, wl, nI l, nI m, sr, iw, gr', wn, cr, st, dn, an, hd, rs, rr, ex, lg) → wX_join_29 post (nI lo) (nI hi) (nI R) (nI L) wl (nI l) (nI m) sr iw (k + 1) (nI i) gr wn cr st dn an hd rs rr ex lg) ∧ (∀ (post : Int32 → SY → Prop) (n : Nat), wY_share_131 post (nI lo) (nI hi) (nI R) (nI L) wl (nI m) sr (nI l) n (nI R) gr' wn cr np nq st hd rr lg sa ba ad rd rh → wY_share_131 post (nI lo) (nI hi) (nI R) (nI L) wl (nI m) sr (nI l) (n + k) (nI i) gr wn cr np nq st hd rr lg sa ba ad rd rh) := by
  intro k
  induction k with
  | zero =>
    intro i gr hi hG
    have e : i = R := by omega
    subst e
    refine ⟨gr, hG, fun post hp => ?_, fun post n hp => hp⟩
    rw [wX_join_29]
    exact br_t (Int32.le_refl _) hp
  | succ k ih =>
    intro i gr hik hG
    have e : (nI i).toNatClampNeg = i := nI_clamp (by omega)
    have hv : vp_in (nI i) 8 := vp_in_nI (by omega) (by omega)
    have hlt : ¬ nI R ≤ nI i := nI_ge (by omega) (by omega)
    have h8 : ¬ (8 : Int32) ≤ nI i := nI_ge (b := 8) (by omega) (by omega)
    by_cases hz : gr i = nI hi
    · obtain ⟨gr', hG', hX, hY⟩ := ih (i + 1) (upd gr i (nI lo)) (by omega) (by
        refine ⟨fun r hr => ?_, fun r h1 h2 => ?_⟩
        · by_cases er : r = i
          · subst er; exact ⟨lo, hlo, pk_us⟩
          · rw [pk_un er]; exact hG.1 r hr
        · rw [pk_un (by omega)]; exact hG.2 r h1 h2)
      refine ⟨gr', hG', fun post hp => ?_, fun post n hp => ?_⟩
      · rw [wX_join_29]
        refine br_f hlt ⟨hv, ?_⟩
        rw [e]
        exact br_t hz ⟨hv, nm_e (nm_r (nI_1 i) (hX post hp))⟩
      · show wY_share_131 post (nI lo) (nI hi) (nI R) (nI L) wl (nI m) sr (nI l) (n + k + 1) (nI i) gr wn cr np nq st hd rr lg sa ba ad rd rh
        rw [wY_share_131]
        refine br_f h8 ⟨hv, ?_⟩
        rw [e]
        exact br_t hz ⟨hv, nm_e (nm_r (nI_1 i) (hY post n hp))⟩
    · obtain ⟨gr', hG', hX, hY⟩ := ih (i + 1) gr (by omega) hG
      refine ⟨gr', hG', fun post hp => ?_, fun post n hp => ?_⟩
      · rw [wX_join_29]
        refine br_f hlt ⟨hv, ?_⟩
        rw [e]
        exact br_f hz (nm_r (nI_1 i) (hX post hp))
      · show wY_share_131 post (nI lo) (nI hi) (nI R) (nI L) wl (nI m) sr (nI l) (n + k + 1) (nI i) gr wn cr np nq st hd rr lg sa ba ad rd rh
        rw [wY_share_131]
        refine br_f h8 ⟨hv, ?_⟩
        rw [e]
        exact br_f hz (nm_r (nI_1 i) (hY post n hp))
/-- the repositories above the count are in groups of their own: the reference's loop passes them -/
theorem sg_joint {lo hi : Nat} {post : Int32 → SY → Prop} (hR : R ≤ 8) (hhi : hi < R) (hG : sg_G R gr) (h : ∃ n, wY_share_167 post (nI lo) (nI R) (nI L) wl (nI m) sr (nI l) n 0 gr wn cr np nq st hd rr lg sa ba ad rd rh) : ∀ k i, i + k = 8 → R ≤ i → wY_share_131 post (nI lo) (nI hi) (nI R) (nI L) wl (nI m) sr (nI l) (k + 1) (nI i) gr wn cr np nq st hd rr lg sa ba ad rd rh := by
  intro k
  induction k with
  | zero =>
    intro i hi8 hRi
    rw [wY_share_131]
    exact br_t (nI_le (a := 8) (by omega) (by omega)) h
  | succ k ih =>
    intro i hi8 hRi
    have e : (nI i).toNatClampNeg = i := nI_clamp (by omega)
    have hv : vp_in (nI i) 8 := vp_in_nI (by omega) (by omega)
    rw [wY_share_131]
    refine br_f (nI_ge (b := 8) (by omega) (by omega)) ⟨hv, ?_⟩
    rw [e]
    refine br_f ?_ (nm_r (nI_1 i) (ih (i + 1) (by omega) (by omega)))
    rw [hG.2 i hRi (by omega), nI_eq (by omega) (by omega)]
    omega
theorem sg_losel {lo : Nat} (hR : R ≤ 8) (hm : m ≤ 32) (hC : sg_C R m cr) : ∀ k i (hd : Nat → Int32), i + k = m → ∃ hd' : Nat → Int32, (∀ c, hd' c = hd c ∨ hd' c = 0) ∧ (∀ post : SX → Prop, post (nI R, nI L, wl, nI l, nI m, sr, iw, gr, wn, cr, st, dn, an, hd', rs, rr, ex, lg) → wX_loseAllRuns_2 post (nI lo) (nI R) (nI L) wl (nI l) (nI m) sr iw (k + 1) (nI i) gr wn cr st dn an hd rs rr ex lg) ∧ (∀ post : Int32 → SY → Prop, wpY_settle (fun u => post (nI lo) u) (nI R, nI L, wl, nI m, sr, nI l, gr, wn, cr, np, nq, st, hd', rr, lg, sa, ba, ad, rd, rh) (nI lo) → wY_share_167 post (nI lo) (nI R) (nI L) wl (nI m) sr (nI l) (k + 1) (nI i) gr wn cr np nq st hd rr lg sa ba ad rd rh) := by
  intro k
  induction k with
  | zero =>
    intro i hd hi
    have h : nI m ≤ nI i := nI_le (by omega) (by omega)
    refine ⟨hd, fun _ => Or.inl rfl, fun post hp => ?_, fun post hp => ?_⟩
    · rw [wX_loseAllRuns_2]; exact br_t h hp
    · rw [wY_share_167]; exact br_t h hp
  | succ k ih =>
    intro i hd hi
    have h : ¬ nI m ≤ nI i := nI_ge (by omega) (by omega)
    have h32 : i < 32 := by omega
    have e : (nI i).toNatClampNeg = i := nI_clamp (by omega)
    have hv : vp_in (nI i) 32 := vp_in_nI (by omega) (by omega)
    have hr := sg_cr8 hR hC (show i < m by omega)
    cases hw : sg_w gr cr st (nI lo) i with
    | false =>
      obtain ⟨hd', h1, hX, hY⟩ := ih (i + 1) hd (by omega)
      refine ⟨hd', h1, fun post hp => ?_, fun post hp => ?_⟩
      · rw [wX_loseAllRuns_2]
        refine br_f h (sg_xw h32 hr ?_)
        rw [hw]
        exact br_t rfl (nm_r (nI_1 i) (hX post hp))
      · rw [wY_share_167]
        refine br_f h (sg_yw h32 hr ?_)
        rw [hw]
        exact br_t rfl (nm_r (nI_1 i) (hY post hp))
    | true =>
      obtain ⟨hd', h1, hX, hY⟩ := ih (i + 1) (upd hd i 0) (by omega)
      refine ⟨hd', sg_t0 sg_u0 h1, fun post hp => ?_, fun post hp => ?_⟩
      · rw [wX_loseAllRuns_2]
        refine br_f h (sg_xw h32 hr ?_)
        rw [hw, e]
        exact br_f (by decide) ⟨hv, nm_e (nm_r (nI_1 i) (hX post hp))⟩
      · rw [wY_share_167]
        refine br_f h (sg_yw h32 hr ?_)
        rw [hw, e]
        exact br_f (by decide) ⟨hv, nm_e (nm_r (nI_1 i) (hY post hp))⟩
/-- both sides from the two groups on -/
theorem sg_shr {lo hi : Nat} (hlo : lo < R) (hhi : hi < R) (hS : sg_S R m gr cr np nq dn an) (hl : l ≤ 32) (hH : sg_R hd rs sa) : ∃ (l' : Nat) (sr' iw' : Int32) (gr' wn' st' hd' rs' rr' ex' lg' sa' ba' ad' rd' rh' : Nat → Int32), sg_S R m gr' cr np nq dn an ∧ l' ≤ 32 ∧ sg_R hd' rs' sa' ∧ (∀ post : Int32 → SX → Prop, post (nI lo) (nI R, nI L, wl, nI l', nI m, sr', iw', gr', wn', cr, st', dn, an, hd', rs', rr', ex', lg') → wX_share_68 post (nI lo) (nI hi) (nI R) (nI L) wl (nI l) (nI m) sr iw gr wn cr st dn an hd rs rr ex lg) ∧ (∀ post : Int32 → SY → Prop, post (nI lo) (nI R, nI L, wl, nI m, sr', nI l', gr', wn', cr, np, nq, st', hd', rr', lg', sa', ba', ad', rd', rh') → wY_share_97 post (nI lo) (nI hi) (nI R) (nI L) wl (nI m) sr (nI l) gr wn cr np nq st hd rr lg sa ba ad rd rh) := by
  obtain ⟨hR, hm, hG, hC, hN, hZ⟩ := hS
  have elo : (nI lo).toNatClampNeg = lo := nI_clamp (by omega)
  have ehi : (nI hi).toNatClampNeg = hi := nI_clamp (by omega)
  have hvl : vp_in (nI lo) 8 := vp_in_nI (by omega) (by omega)
  have hvh : vp_in (nI hi) 8 := vp_in_nI (by omega) (by omega)
  have hw : ∃ wn1 : Nat → Int32, (∀ post : SX → Prop, (∃ n, wX_join_29 post (nI lo) (nI hi) (nI R) (nI L) wl (nI l) (nI m) sr iw n 0 gr wn1 cr st dn an hd rs rr ex lg) → wpX_join post (nI R, nI L, wl, nI l, nI m, sr, iw, gr, wn, cr, st, dn, an, hd, rs, rr, ex, lg) (nI lo) (nI hi)) ∧ (∀ post : Int32 → SY → Prop, (∃ n, wY_share_131 post (nI lo) (nI hi) (nI R) (nI L) wl (nI m) sr (nI l) n 0 gr wn1 cr np nq st hd rr lg sa ba ad rd rh) → wY_share_97 post (nI lo) (nI hi) (nI R) (nI L) wl (nI m) sr (nI l) gr wn cr np nq st hd rr lg sa ba ad rd rh) := by
    unfold wpX_join wY_share_97
    dsimp only
    rw [elo, ehi]
    by_cases h : wn lo ≤ wn hi
    · exact ⟨wn, fun post hp => ⟨hvh, hvl, br_t h hp⟩, fun post hp => ⟨hvh, hvl, br_t h hp⟩⟩
    · exact ⟨upd wn lo (wn hi), fun post hp => ⟨hvh, hvl, br_f h ⟨hvh, hvl, nm_e hp⟩⟩, fun post hp => ⟨hvh, hvl, br_f h ⟨hvh, hvl, nm_e hp⟩⟩⟩
  obtain ⟨wn1, w1, w2⟩ := hw
  obtain ⟨gr1, hG1, j1, j2⟩ := sg_joinl (R := R) (L := L) (m := m) (l := l) (wl := wl) (sr := sr) (iw := iw) (wn := wn1) (cr := cr) (st := st) (dn := dn) (an := an) (hd := hd) (rs := rs) (rr := rr) (ex := ex) (lg := lg) (np := np) (nq := nq) (sa := sa) (ba := ba) (ad := ad) (rd := rd) (rh := rh) hR hlo hhi R 0 gr (by omega) hG
  obtain ⟨hd1, h1, l1, l2⟩ := sg_losel (R := R) (L := L) (m := m) (l := l) (wl := wl) (sr := sr) (iw := iw) (gr := gr1) (wn := wn1) (cr := cr) (st := st) (dn := dn) (an := an) (rs := rs) (rr := rr) (ex := ex) (lg := lg) (np := np) (nq := nq) (sa := sa) (ba := ba) (ad := ad) (rd := rd) (rh := rh) (lo := lo) hR hm hC m 0 hd (by omega)
  have hS1 : sg_S R m gr1 cr np nq dn an := ⟨hR, hm, hG1, hC, hN, hZ⟩
  obtain ⟨l', sr', iw', wn', st', hd', rs', rr', ex', lg', sa', ba', ad', rd', rh', k1, k2, kX, kY⟩ := sg_settle (R := R) (L := L) (m := m) (l := l) (wl := wl) (sr := sr) (iw := iw) (gr := gr1) (wn := wn1) (cr := cr) (st := st) (dn := dn) (an := an) (hd := hd1) (rs := rs) (rr := rr) (ex := ex) (lg := lg) (np := np) (nq := nq) (sa := sa) (ba := ba) (ad := ad) (rd := rd) (rh := rh) (g := lo) (by omega) hS1 hl (sg_R0 hH h1)
  refine ⟨l', sr', iw', gr1, wn', st', hd', rs', rr', ex', lg', sa', ba', ad', rd', rh', hS1, k1, k2, fun post hp => ?_, fun post hp => ?_⟩
  · unfold wX_share_68
    refine w1 _ ⟨R + 1, j1 _ ?_⟩
    dsimp only
    unfold wpX_loseAllRuns
    dsimp only
    refine ⟨m + 1, l1 _ ?_⟩
    exact kX _ hp
  · refine w2 post ⟨_, j2 post _ (sg_joint hR hhi hG1 ⟨m + 1, l2 post ?_⟩ (8 - R) R (by omega) (Nat.le_refl R))⟩
    exact kY _ hp
end
theorem i_vc_share {k : Nat} {u : SX} {v : SY} (I : i_Rel k u v) (hk : k + 4 ≤ 2052) (v1 : Int32) (v2 : Int32) : wpX_share (fun r u' => wpY_share (fun r' v' => r' = r ∧ i_Rel (k + 4) u' v') v v1 v2) u v1 v2 := by
  refine sg_el (P := fun u v => wpX_share (fun r u' => wpY_share (fun r' v' => r' = r ∧ i_Rel (k + 4) u' v') v v1 v2) u v1 v2) ?_ I
  intro R L m l wl sr iw gr wn cr st dn an hd rs rr ex lg np nq sa ba ad rd rh hS hL hl hH
  have hR := hS.1
  have K := sg_in (R := R) (L := L) (m := m) (l := l) (wl := wl) (sr := sr) (iw := iw) (gr := gr) (wn := wn) (cr := cr) (st := st) (dn := dn) (an := an) (hd := hd) (rs := rs) (rr := rr) (ex := ex) (lg := lg) (np := np) (nq := nq) (sa := sa) (ba := ba) (ad := ad) (rd := rd) (rh := rh) (k + 4) hS hL hl hH
  unfold wpX_share
  dsimp only
  by_cases h : ∃ j, j < R ∧ v1 = nI j
  · obtain ⟨a, ha, rfl⟩ := h
    by_cases h2 : ∃ j, j < R ∧ v2 = nI j
    · obtain ⟨b, hb, rfl⟩ := h2
      have hva : vp_in (nI a) 8 := vp_in_nI (by omega) (by omega)
      have hvb : vp_in (nI b) 8 := vp_in_nI (by omega) (by omega)
      have ea : (nI a).toNatClampNeg = a := nI_clamp (by omega)
      have eb : (nI b).toNatClampNeg = b := nI_clamp (by omega)
      obtain ⟨ga, hga, ega⟩ := hS.2.2.1.1 a ha
      obtain ⟨gb, hgb, egb⟩ := hS.2.2.1.1 b hb
      refine sg_xr1 (by omega) ha (br_f (by decide) (sg_xr1 (by omega) hb (br_f (by decide) ⟨hva, ?_⟩)))
      rw [ea, eb]
      refine nm_r ega ⟨hvb, nm_r egb ?_⟩
      have yin : ∀ post : Int32 → SY → Prop, ((nI ga = nI gb → post (-6) (nI R, nI L, wl, nI m, sr, nI l, gr, wn, cr, np, nq, st, hd, rr, lg, sa, ba, ad, rd, rh)) ∧ (¬ nI ga = nI gb → (nI gb ≤ nI ga → wY_share_97 post (nI gb) (nI ga) (nI R) (nI L) wl (nI m) sr (nI l) gr wn cr np nq st hd rr lg sa ba ad rd rh) ∧ (¬ nI gb ≤ nI ga → wY_share_97 post (nI ga) (nI gb) (nI R) (nI L) wl (nI m) sr (nI l) gr wn cr np nq st hd rr lg sa ba ad rd rh))) → wpY_share post (nI R, nI L, wl, nI m, sr, nI l, gr, wn, cr, np, nq, st, hd, rr, lg, sa, ba, ad, rd, rh) (nI a) (nI b) := by
        intro post hy
        unfold wpY_share
        dsimp only
        refine sg_yr1 (by omega) ha (br_f (by decide) (sg_yr1 (by omega) hb (br_f (by decide) ⟨hva, hvb, ?_⟩)))
        unfold wY_share_66
        rw [ea, eb, ega, egb]
        exact ⟨hy.1, fun z => ⟨hva, hvb, fun y => ⟨hvb, hva, hvb, br_t y ⟨hva, (hy.2 z).1 y⟩⟩, fun y => ⟨hva, hva, hvb, br_f y ⟨hvb, (hy.2 z).2 y⟩⟩⟩⟩
      refine br_c (fun z => ?_) (fun z => ?_)
      · exact yin _ (br_t z ⟨rfl, K⟩)
      · by_cases hle : nI gb ≤ nI ga
        · obtain ⟨l', sr', iw', gr', wn', st', hd', rs', rr', ex', lg', sa', ba', ad', rd', rh', k0, k1, k2, kX, kY⟩ := sg_shr (R := R) (L := L) (m := m) (l := l) (wl := wl) (sr := sr) (iw := iw) (gr := gr) (wn := wn) (cr := cr) (st := st) (dn := dn) (an := an) (hd := hd) (rs := rs) (rr := rr) (ex := ex) (lg := lg) (np := np) (nq := nq) (sa := sa) (ba := ba) (ad := ad) (rd := rd) (rh := rh) hgb hga hS hl hH
          refine br_t hle ?_
          unfold wX_share_54
          exact br_t hle (kX _ (yin _ (br_f z (br_t hle (kY _ ⟨rfl, sg_in (k + 4) k0 hL k1 k2⟩)))))
        · obtain ⟨l', sr', iw', gr', wn', st', hd', rs', rr', ex', lg', sa', ba', ad', rd', rh', k0, k1, k2, kX, kY⟩ := sg_shr (R := R) (L := L) (m := m) (l := l) (wl := wl) (sr := sr) (iw := iw) (gr := gr) (wn := wn) (cr := cr) (st := st) (dn := dn) (an := an) (hd := hd) (rs := rs) (rr := rr) (ex := ex) (lg := lg) (np := np) (nq := nq) (sa := sa) (ba := ba) (ad := ad) (rd := rd) (rh := rh) hga hgb hS hl hH
          refine br_f hle ?_
          unfold wX_share_54
          exact br_f hle (kX _ (yin _ (br_f z (br_f hle (kY _ ⟨rfl, sg_in (k + 4) k0 hL k1 k2⟩)))))
    · refine sg_xr1 (by omega) ha (br_f (by decide) (sg_xr0 (by omega) h2 (br_t rfl ?_)))
      unfold wpY_share
      dsimp only
      exact sg_yr1 (by omega) ha (br_f (by decide) (sg_yr0 (by omega) h2 (br_t rfl ⟨rfl, K⟩)))
  · refine sg_xr0 (by omega) h (br_t rfl ?_)
    unfold wpY_share
    dsimp only
    exact sg_yr0 (by omega) h (br_t rfl ⟨rfl, K⟩)
end
section
/-! submit -/
section
variable {R L m l : Nat} {wl sr iw : Int32} {gr wn cr st dn an hd rs rr ex lg np nq sa ba ad rd rh : Nat → Int32}
theorem sg_ref {p : Int32} {j0 : Nat} (hR : R ≤ 8) (hm : m ≤ 32) (hC : sg_C R m cr) (hj0 : j0 < R) : ∃ r : Int32, (r = 0 → p < 0 ∨ ∃ j, j < m ∧ p = nI j) ∧ (∀ post : Int32 → Prop, post r → wpX_needRefusal post (nI R, nI L, wl, nI l, nI m, sr, iw, gr, wn, cr, st, dn, an, hd, rs, rr, ex, lg) p (gr j0)) ∧ (∀ post : Int32 → Prop, post r → wpY_refuseNeed post (nI R, nI L, wl, nI m, sr, nI l, gr, wn, cr, np, nq, st, hd, rr, lg, sa, ba, ad, rd, rh) (nI j0) p) := by
  have e0 : (nI j0).toNatClampNeg = j0 := nI_clamp (by omega)
  have hv0 : vp_in (nI j0) 8 := vp_in_nI (by omega) (by omega)
  unfold wpX_needRefusal wpY_refuseNeed
  dsimp only
  rw [e0]
  by_cases h0 : 0 ≤ p
  · obtain ⟨j, hj, rfl⟩ := nI_of (Int32.not_lt.mpr h0)
    by_cases hjm : j < m
    · have hlt : nI j < nI m := nI_lt hjm (by omega)
      have e : (nI j).toNatClampNeg = j := nI_clamp hj
      have hv : vp_in (nI j) 32 := vp_in_nI (by omega) (by omega)
      have hr := sg_cr8 hR hC hjm
      rw [e]
      by_cases hs0 : st j = 0
      · have hs1 : ¬ st j = 1 := by rw [hs0]; decide
        by_cases hg : gr (cr j).toNatClampNeg = gr j0
        · exact ⟨0, fun _ => Or.inr ⟨j, hjm, rfl⟩, fun post hp => br_t h0 (br_t hlt ⟨hv, nm_e (br_f hs1 (br_t hs0 ⟨hv, hr, br_t hg hp⟩))⟩), fun post hp => br_t h0 (br_t hlt ⟨hv, br_t hs0 ⟨hv, hr, hv0, br_t hg hp⟩⟩)⟩
        · exact ⟨-5, fun z => absurd z (by decide), fun post hp => br_t h0 (br_t hlt ⟨hv, nm_e (br_f hs1 (br_t hs0 ⟨hv, hr, br_f hg hp⟩))⟩), fun post hp => br_t h0 (br_t hlt ⟨hv, br_t hs0 ⟨hv, hr, hv0, br_f hg hp⟩⟩)⟩
      · by_cases hs1 : st j = 1
        · exact ⟨0, fun _ => Or.inr ⟨j, hjm, rfl⟩, fun post hp => br_t h0 (br_t hlt ⟨hv, nm_e (br_t hs1 hp)⟩), fun post hp => br_t h0 (br_t hlt ⟨hv, br_f hs0 ⟨hv, br_t hs1 hp⟩⟩)⟩
        · exact ⟨-4, fun z => absurd z (by decide), fun post hp => br_t h0 (br_t hlt ⟨hv, nm_e (br_f hs1 (br_f hs0 hp))⟩), fun post hp => br_t h0 (br_t hlt ⟨hv, br_f hs0 ⟨hv, br_f hs1 hp⟩⟩)⟩
    · have hlt : ¬ nI j < nI m := nI_nlt (by omega) hj
      exact ⟨-3, fun z => absurd z (by decide), fun post hp => br_t h0 (br_f hlt hp), fun post hp => br_t h0 (br_f hlt hp)⟩
  · exact ⟨0, fun _ => Or.inl (Int32.not_le.mp h0), fun post hp => br_f h0 hp, fun post hp => br_f h0 hp⟩
/-- one need is noted -/
theorem sg_addn {c : Nat} {p : Int32} (hc : c < 32) (hp : p < 0 ∨ ∃ j, j < c ∧ p = nI j) : ∃ dn' an' : Nat → Int32, (∀ d, d ≠ c → dn' d = dn d ∧ an' d = an d) ∧ (∀ d, d < 32 → bt (dn' c) d = (bt (dn c) d || decide (p = nI d))) ∧ (∀ d, d < 32 → bt (an' c) d = (bt (an c) d || (decide (¬ p < 0) && (decide (p = nI d) || bt (an p.toNatClampNeg) d)))) ∧ ∀ post : SX → Prop, post (nI R, nI L, wl, nI l, nI m, sr, iw, gr, wn, cr, st, dn', an', hd, rs, rr, ex, lg) → wpX_addNeed post (nI R, nI L, wl, nI l, nI m, sr, iw, gr, wn, cr, st, dn, an, hd, rs, rr, ex, lg) (nI c) p := by
  have e : (nI c).toNatClampNeg = c := nI_clamp (by omega)
  have hv : vp_in (nI c) 32 := vp_in_nI hc (by omega)
  unfold wpX_addNeed
  dsimp only
  rcases hp with h0 | ⟨j, hj, rfl⟩
  · refine ⟨dn, an, fun d _ => ⟨rfl, rfl⟩, fun d hd => ?_, fun d hd => ?_, fun post hp => br_t h0 hp⟩
    · have hne : ¬ p = nI d := fun z => by rw [z] at h0; exact nI_pos (by omega) h0
      rw [decide_eq_false hne, Bool.or_false]
    · rw [decide_eq_false (fun z => z h0), Bool.false_and, Bool.or_false]
  · have ej : (nI j).toNatClampNeg = j := nI_clamp (by omega)
    have hvj : vp_in (nI j) 32 := vp_in_nI (by omega) (by omega)
    have hnn : ¬ nI j < 0 := nI_pos (by omega)
    rw [e, ej]
    refine ⟨upd dn c (dn c ||| ((1 : Int32) <<< (nI j &&& 31))), upd an c (an c ||| (((1 : Int32) <<< (nI j &&& 31)) ||| an j)), fun d hd => ⟨pk_un hd, pk_un hd⟩, fun d hd => ?_, fun d hd => ?_, fun post hp => br_f hnn (br_f (nI_ge hj (by omega)) ⟨hv, hv, nm_e ⟨hv, hvj, hv, nm_e hp⟩⟩)⟩
    · rw [pk_us, sg_ob (by omega) hd]
      congr 1
      exact decide_eq_decide.mpr ⟨fun z => by rw [z], fun z => ((nI_eq (by omega) (by omega)).mp z).symm⟩
    · rw [pk_us, b_or, b_or, sg_b1 j (by omega) d hd, decide_eq_true hnn, Bool.true_and]
      congr 2
      exact decide_eq_decide.mpr ⟨fun z => by rw [z], fun z => ((nI_eq (by omega) (by omega)).mp z).symm⟩
/-- what the reference notes of a need -/
def sg_np (p : Int32) : Int32 := if 0 ≤ p then p else -1
theorem sg_np1 {p : Int32} (h : 0 ≤ p) : sg_np p = p := if_pos h
theorem sg_np0 {p : Int32} (h : ¬ 0 ≤ p) : sg_np p = -1 := if_neg h
theorem sg_npd {p : Int32} {d : Nat} (hd : d < 32) : decide (sg_np p = nI d) = decide (p = nI d) := by
  by_cases h : 0 ≤ p
  · rw [sg_np1 h]
  · rw [sg_np0 h]
    have h1 : ¬ p = nI d := fun z => by rw [z] at h; exact h (nI_pos' (by omega))
    have h2 : ¬ (-1 : Int32) = nI d := fun z => by
      have := nI_pos (n := d) (by omega)
      rw [← z] at this
      exact this (by decide)
    rw [decide_eq_false h1, decide_eq_false h2]
theorem sg_npl {p : Int32} : sg_np p < 0 ↔ p < 0 := by
  by_cases h : 0 ≤ p
  · rw [sg_np1 h]
  · rw [sg_np0 h]
    exact ⟨fun _ => Int32.not_le.mp h, fun _ => by decide⟩
/-- the needs' facts with one more change -/
theorem sg_Nd1 {dn' an' an1 : Nat → Int32} {p q : Int32} (hm : m < 32) (hN : sg_Nd m np nq dn an) (hZ : sg_Z m dn an) (hp : p < 0 ∨ ∃ j, j < m ∧ p = nI j) (hq : q < 0 ∨ ∃ j, j < m ∧ q = nI j) (a1 : ∀ d, d ≠ m → an1 d = an d) (h1 : ∀ d, d ≠ m → dn' d = dn d ∧ an' d = an d) (h2 : ∀ d, d < 32 → bt (dn' m) d = (decide (p = nI d) || decide (q = nI d))) (h3 : ∀ d, d < 32 → bt (an' m) d = ((decide (¬ p < 0) && (decide (p = nI d) || bt (an p.toNatClampNeg) d)) || (decide (¬ q < 0) && (decide (q = nI d) || bt (an1 q.toNatClampNeg) d)))) : sg_Nd (m + 1) (upd np m (sg_np p)) (upd nq m (sg_np q)) dn' an' := by
  have via : ∀ (f : Nat → Int32) (x : Int32) (c d : Nat), c < m → sg_pok f c → sg_via (upd f m x) an' c d = sg_via f an c d := by
    intro f x c d hc hf
    unfold sg_via
    rw [pk_un (show c ≠ m by omega)]
    rcases hf with h0 | ⟨r, hr, e⟩
    · rw [decide_eq_false (fun z => z h0), Bool.false_and, Bool.false_and]
    · rw [e, nI_clamp (by omega), (h1 r (by omega)).2]
  have vim : ∀ (f an0 : Nat → Int32) (x : Int32) (d : Nat), d < 32 → (x < 0 ∨ ∃ j, j < m ∧ x = nI j) → (∀ d, d ≠ m → an0 d = an d) → sg_via (upd f m (sg_np x)) an' m d = (decide (¬ x < 0) && (decide (x = nI d) || bt (an0 x.toNatClampNeg) d)) := by
    intro f an0 x d hd hx ha
    unfold sg_via
    rw [pk_us, sg_npd hd]
    rcases hx with h0 | ⟨r, hr, e⟩
    · rw [decide_eq_false (show ¬ ¬ sg_np x < 0 from fun z => z (sg_npl.mpr h0)), decide_eq_false (show ¬ ¬ x < 0 from fun z => z h0), Bool.false_and, Bool.false_and]
    · have hx0 : 0 ≤ x := by rw [e]; exact nI_pos' (by omega)
      rw [sg_np1 hx0, e, nI_clamp (by omega), (h1 r (by omega)).2, ha r (by omega)]
  have pok : ∀ (f : Nat → Int32) (x : Int32), (x < 0 ∨ ∃ j, j < m ∧ x = nI j) → sg_pok (upd f m (sg_np x)) m := by
    intro f x hx
    unfold sg_pok
    rw [pk_us]
    rcases hx with h0 | ⟨r, hr, e⟩
    · exact Or.inl (sg_npl.mpr h0)
    · have hx0 : 0 ≤ x := by rw [e]; exact nI_pos' (by omega)
      rw [sg_np1 hx0]
      exact Or.inr ⟨r, hr, e⟩
  intro c hc
  by_cases ec : c = m
  · subst ec
    refine ⟨pok _ _ hp, pok _ _ hq, fun d hd => ?_, fun d hd => ?_⟩
    · rw [pk_us, pk_us, sg_npd hd, sg_npd hd]; exact h2 d hd
    · rw [vim _ an _ d hd hp (fun _ _ => rfl), vim _ an1 _ d hd hq a1]; exact h3 d hd
  · obtain ⟨k1, k2, k3, k4⟩ := hN c (by omega)
    refine ⟨?_, ?_, fun d hd => ?_, fun d hd => ?_⟩
    · unfold sg_pok; rw [pk_un ec]; exact k1
    · unfold sg_pok; rw [pk_un ec]; exact k2
    · rw [pk_un ec, pk_un ec, (h1 c ec).1]; exact k3 d hd
    · rw [via _ _ c d (by omega) k1, via _ _ c d (by omega) k2, (h1 c ec).2]; exact k4 d hd
/-- the accepted change, both sides -/
theorem sg_acc {j0 : Nat} {p q : Int32} (hS : sg_S R m gr cr np nq dn an) (hm : m < 32) (hl : l ≤ 32) (hH : sg_R hd rs sa) (hj0 : j0 < R) (hp : p < 0 ∨ ∃ j, j < m ∧ p = nI j) (hq : q < 0 ∨ ∃ j, j < m ∧ q = nI j) : ∃ (l' : Nat) (sr' iw' : Int32) (wn' cr' st' dn' an' hd' rs' rr' ex' lg' np' nq' sa' ba' ad' rd' rh' : Nat → Int32), sg_S R (m + 1) gr cr' np' nq' dn' an' ∧ l' ≤ 32 ∧ sg_R hd' rs' sa' ∧ (∀ post : Int32 → SX → Prop, post (nI m) (nI R, nI L, wl, nI l', (nI (m + 1)), sr', iw', gr, wn', cr', st', dn', an', hd', rs', rr', ex', lg') → wX_submit_55 post (nI j0) p q (gr j0) 0 (nI R) (nI L) wl (nI l) (nI m) sr iw gr wn cr st dn an hd rs rr ex lg) ∧ (∀ post : Int32 → SY → Prop, post (nI m) (nI R, nI L, wl, (nI (m + 1)), sr', nI l', gr, wn', cr', np', nq', st', hd', rr', lg', sa', ba', ad', rd', rh') → wY_submit_45 post (nI j0) p q 0 (nI R) (nI L) wl (nI m) sr (nI l) gr wn cr np nq st hd rr lg sa ba ad rd rh) := by
  obtain ⟨hR, hm', hG, hC, hN, hZ⟩ := hS
  have e : (nI m).toNatClampNeg = m := nI_clamp (by omega)
  have hv : vp_in (nI m) 32 := vp_in_nI hm (by omega)
  have e0 : (nI j0).toNatClampNeg = j0 := nI_clamp (by omega)
  have hv0 : vp_in (nI j0) 8 := vp_in_nI (by omega) (by omega)
  obtain ⟨g, hg, eg⟩ := hG.1 j0 hj0
  obtain ⟨dn1, an1, a1, a2, a3, aX⟩ := sg_addn (R := R) (L := L) (m := (m + 1)) (l := l) (wl := wl) (sr := sr) (iw := iw) (gr := gr) (wn := wn) (cr := (upd cr m (nI j0))) (st := (upd st m 0)) (dn := dn) (an := an) (hd := hd) (rs := rs) (rr := rr) (ex := ex) (lg := lg) hm hp
  obtain ⟨dn2, an2, b1, b2, b3, bX⟩ := sg_addn (R := R) (L := L) (m := (m + 1)) (l := l) (wl := wl) (sr := sr) (iw := iw) (gr := gr) (wn := wn) (cr := (upd cr m (nI j0))) (st := (upd st m 0)) (dn := dn1) (an := an1) (hd := hd) (rs := rs) (rr := rr) (ex := ex) (lg := lg) hm hq
  obtain ⟨z1, z2⟩ := hZ m (Nat.le_refl m)
  have hS1 : sg_S R (m + 1) gr (upd cr m (nI j0)) (upd np m (sg_np p)) (upd nq m (sg_np q)) dn2 an2 := by
    refine ⟨hR, hm, hG, fun c hc => ?_, sg_Nd1 (an1 := an1) hm hN hZ hp hq (fun d hd => (a1 d hd).2) (fun d hd => ⟨(b1 d hd).1.trans (a1 d hd).1, (b1 d hd).2.trans (a1 d hd).2⟩) (fun d hd => ?_) (fun d hd => ?_), fun c hc => ?_⟩
    · by_cases ec : c = m
      · subst ec; exact ⟨j0, hj0, pk_us⟩
      · rw [pk_un ec]; exact hC c (by omega)
    · rw [b2 d hd, a2 d hd, z1, b_0, Bool.false_or]
    · rw [b3 d hd, a3 d hd, z2, b_0, Bool.false_or]
    · have hne : c ≠ m := by omega
      exact ⟨(b1 c hne).1.trans ((a1 c hne).1.trans (hZ c (by omega)).1), (b1 c hne).2.trans ((a1 c hne).2.trans (hZ c (by omega)).2)⟩
  obtain ⟨l', sr', iw', wn', st', hd', rs', rr', ex', lg', sa', ba', ad', rd', rh', k1, k2, kX, kY⟩ := sg_settle (R := R) (L := L) (m := (m + 1)) (l := l) (wl := wl) (sr := sr) (iw := iw) (gr := gr) (wn := wn) (cr := (upd cr m (nI j0))) (st := (upd st m 0)) (dn := dn2) (an := an2) (hd := hd) (rs := rs) (rr := rr) (ex := ex) (lg := lg) (np := (upd np m (sg_np p))) (nq := (upd nq m (sg_np q))) (sa := sa) (ba := ba) (ad := ad) (rd := rd) (rh := rh) (g := g) (by omega) hS1 hl hH
  refine ⟨l', sr', iw', wn', upd cr m (nI j0), st', dn2, an2, hd', rs', rr', ex', lg', upd np m (sg_np p), upd nq m (sg_np q), sa', ba', ad', rd', rh', hS1, k1, k2, fun post hp' => ?_, fun post hp' => ?_⟩
  · unfold wX_submit_55
    rw [e, eg]
    exact br_t rfl (nm_r (nI_1 m) ⟨hv, nm_e ⟨hv, nm_e (aX _ (bX _ (kX _ hp')))⟩⟩)
  · have y98 : ∀ z : Int32, z = sg_np q → wY_submit_98 post (nI j0) (nI m) z (nI m) (nI R) (nI L) wl (nI m) sr (nI l) gr wn (upd cr m (nI j0)) (upd np m (sg_np p)) nq st hd rr lg sa ba ad rd rh := by
      intro z ez
      subst ez
      unfold wY_submit_98
      rw [e, e0, eg]
      exact ⟨hv, nm_e ⟨hv, nm_e (nm_r (nI_1 m) ⟨hv0, kY _ hp'⟩)⟩⟩
    have y82 : ∀ z : Int32, z = sg_np p → wY_submit_82 post (nI j0) q (nI m) z (nI m) (nI R) (nI L) wl (nI m) sr (nI l) gr wn (upd cr m (nI j0)) np nq st hd rr lg sa ba ad rd rh := by
      intro z ez
      subst ez
      unfold wY_submit_82
      rw [e]
      exact ⟨hv, nm_e (br_c (fun y => y98 q (sg_np1 y).symm) (fun y => y98 (-1) (sg_np0 y).symm))⟩
    unfold wY_submit_45
    rw [e]
    exact br_t rfl ⟨hv, nm_e (br_c (fun y => y82 p (sg_np1 y).symm) (fun y => y82 (-1) (sg_np0 y).symm))⟩
end
theorem i_vc_submit {k : Nat} {u : SX} {v : SY} (I : i_Rel k u v) (hk : k + 4 ≤ 2052) (v1 : Int32) (v2 : Int32) (v3 : Int32) : wpX_submit (fun r u' => wpY_submit (fun r' v' => r' = r ∧ i_Rel (k + 4) u' v') v v1 v2 v3) u v1 v2 v3 := by
  refine sg_el (P := fun u v => wpX_submit (fun r u' => wpY_submit (fun r' v' => r' = r ∧ i_Rel (k + 4) u' v') v v1 v2 v3) u v1 v2 v3) ?_ I
  intro R L m l wl sr iw gr wn cr st dn an hd rs rr ex lg np nq sa ba ad rd rh hS hL hl hH
  have hR := hS.1
  have hm := hS.2.1
  have hC := hS.2.2.2.1
  have K := sg_in (R := R) (L := L) (m := m) (l := l) (wl := wl) (sr := sr) (iw := iw) (gr := gr) (wn := wn) (cr := cr) (st := st) (dn := dn) (an := an) (hd := hd) (rs := rs) (rr := rr) (ex := ex) (lg := lg) (np := np) (nq := nq) (sa := sa) (ba := ba) (ad := ad) (rd := rd) (rh := rh) (k + 4) hS hL hl hH
  unfold wpX_submit
  dsimp only
  by_cases h : ∃ j, j < R ∧ v1 = nI j
  · obtain ⟨j0, hj0, rfl⟩ := h
    have e0 : (nI j0).toNatClampNeg = j0 := nI_clamp (by omega)
    have hv0 : vp_in (nI j0) 8 := vp_in_nI (by omega) (by omega)
    refine sg_xr1 (by omega) hj0 (br_f (by decide) ?_)
    by_cases hml : m < L
    · have hlt : nI m < nI L := nI_lt hml (by omega)
      obtain ⟨r1, f1, x1, y1⟩ := sg_ref (R := R) (L := L) (m := m) (l := l) (wl := wl) (sr := sr) (iw := iw) (gr := gr) (wn := wn) (cr := cr) (st := st) (dn := dn) (an := an) (hd := hd) (rs := rs) (rr := rr) (ex := ex) (lg := lg) (np := np) (nq := nq) (sa := sa) (ba := ba) (ad := ad) (rd := rd) (rh := rh) (p := v2) hR hm hC hj0
      obtain ⟨r2, f2, x2, y2⟩ := sg_ref (R := R) (L := L) (m := m) (l := l) (wl := wl) (sr := sr) (iw := iw) (gr := gr) (wn := wn) (cr := cr) (st := st) (dn := dn) (an := an) (hd := hd) (rs := rs) (rr := rr) (ex := ex) (lg := lg) (np := np) (nq := nq) (sa := sa) (ba := ba) (ad := ad) (rd := rd) (rh := rh) (p := v3) hR hm hC hj0
      refine br_t hlt ⟨hv0, ?_⟩
      rw [e0]
      refine nm_e (x1 _ ?_)
      have yin : ∀ post : Int32 → SY → Prop, ((r1 = 0 → wY_submit_45 post (nI j0) v2 v3 r2 (nI R) (nI L) wl (nI m) sr (nI l) gr wn cr np nq st hd rr lg sa ba ad rd rh) ∧ (¬ r1 = 0 → wY_submit_45 post (nI j0) v2 v3 r1 (nI R) (nI L) wl (nI m) sr (nI l) gr wn cr np nq st hd rr lg sa ba ad rd rh)) → wpY_submit post (nI R, nI L, wl, nI m, sr, nI l, gr, wn, cr, np, nq, st, hd, rr, lg, sa, ba, ad, rd, rh) (nI j0) v2 v3 := by
        intro post hy
        unfold wpY_submit
        dsimp only
        exact sg_yr1 (by omega) hj0 (br_f (by decide) (br_t hlt (y1 _ ⟨fun z => y2 _ (hy.1 z), hy.2⟩)))
      by_cases z1 : r1 = 0
      · refine br_t z1 (x2 _ ?_)
        by_cases z2 : r2 = 0
        · subst z2
          obtain ⟨l', sr', iw', wn', cr', st', dn', an', hd', rs', rr', ex', lg', np', nq', sa', ba', ad', rd', rh', k0, k1, k2, kX, kY⟩ := sg_acc (R := R) (L := L) (m := m) (l := l) (wl := wl) (sr := sr) (iw := iw) (gr := gr) (wn := wn) (cr := cr) (st := st) (dn := dn) (an := an) (hd := hd) (rs := rs) (rr := rr) (ex := ex) (lg := lg) (np := np) (nq := nq) (sa := sa) (ba := ba) (ad := ad) (rd := rd) (rh := rh) hS (by omega) hl hH hj0 (f1 z1) (f2 rfl)
          exact kX _ (yin _ (br_t z1 (kY _ ⟨rfl, sg_in (k + 4) k0 hL k1 k2⟩)))
        · unfold wX_submit_55
          refine br_f z2 (yin _ (br_t z1 ?_))
          unfold wY_submit_45
          exact br_f z2 ⟨rfl, K⟩
      · refine br_f z1 ?_
        unfold wX_submit_55
        refine br_f z1 (yin _ (br_f z1 ?_))
        unfold wY_submit_45
        exact br_f z1 ⟨rfl, K⟩
    · have hlt : ¬ nI m < nI L := nI_nlt (by omega) (by omega)
      refine br_f hlt ?_
      unfold wpY_submit
      dsimp only
      exact sg_yr1 (by omega) hj0 (br_f (by decide) (br_f hlt ⟨rfl, K⟩))
  · refine sg_xr0 (by omega) h (br_t rfl ?_)
    unfold wpY_submit
    dsimp only
    exact sg_yr0 (by omega) h (br_t rfl ⟨rfl, K⟩)
end
section
/-! report, withdraw -/
theorem i_vc_report {k : Nat} {u : SX} {v : SY} (I : i_Rel k u v) (hk : k + 4 ≤ 2052) (v1 : Int32) (v2 : Int32) : wpX_report (fun r u' => wpY_report (fun r' v' => r' = r ∧ i_Rel (k + 4) u' v') v v1 (lw_bz v2)) u v1 (lw_bz v2) := by
  refine sg_el (P := fun u v => wpX_report (fun r u' => wpY_report (fun r' v' => r' = r ∧ i_Rel (k + 4) u' v') v v1 (lw_bz v2)) u v1 (lw_bz v2)) ?_ I
  intro R L m l wl sr iw gr wn cr st dn an hd rs rr ex lg np nq sa ba ad rd rh hS hL hl hH
  have hR := hS.1
  have hm := hS.2.1
  have hC := hS.2.2.2.1
  have K := sg_in (R := R) (L := L) (m := m) (l := l) (wl := wl) (sr := sr) (iw := iw) (gr := gr) (wn := wn) (cr := cr) (st := st) (dn := dn) (an := an) (hd := hd) (rs := rs) (rr := rr) (ex := ex) (lg := lg) (np := np) (nq := nq) (sa := sa) (ba := ba) (ad := ad) (rd := rd) (rh := rh) (k + 4) hS hL hl hH
  generalize lw_bz v2 = b
  obtain ⟨r, hr, hX, hY⟩ := sg_hold (R := R) (L := L) (m := m) (l := l) (wl := wl) (sr := sr) (iw := iw) (gr := gr) (wn := wn) (cr := cr) (st := st) (dn := dn) (an := an) (hd := hd) (rs := rs) (rr := rr) (ex := ex) (lg := lg) (np := np) (nq := nq) (sa := sa) (ba := ba) (ad := ad) (rd := rd) (rh := rh) v1 hm
  have yin : ∀ post : Int32 → SY → Prop, ((0 ≤ r → (vp_in r 32 ∧ ((((rr r.toNatClampNeg) = 0 → (((b = 0 → (wY_report_38 post r 2 r (nI R) (nI L) wl (nI m) sr (nI l) gr wn cr np nq st hd rr lg sa ba ad rd rh)) ∧ (¬ b = 0 → (wY_report_38 post r 1 r (nI R) (nI L) wl (nI m) sr (nI l) gr wn cr np nq st hd rr lg sa ba ad rd rh))))) ∧ (¬ (rr r.toNatClampNeg) = 0 → (post (-9) (nI R, nI L, wl, nI m, sr, nI l, gr, wn, cr, np, nq, st, hd, rr, lg, sa, ba, ad, rd, rh))))))) ∧ (¬ 0 ≤ r → (post r (nI R, nI L, wl, nI m, sr, nI l, gr, wn, cr, np, nq, st, hd, rr, lg, sa, ba, ad, rd, rh)))) → wpY_report post (nI R, nI L, wl, nI m, sr, nI l, gr, wn, cr, np, nq, st, hd, rr, lg, sa, ba, ad, rd, rh) v1 b := by
    intro post hy
    unfold wpY_report
    dsimp only
    exact hY _ hy
  unfold wpX_report
  dsimp only
  refine hX _ ?_
  rcases hr with h | ⟨c, hc, rfl, hn⟩
  · exact br_f h (yin _ (br_f h ⟨rfl, K⟩))
  · have hv : vp_in (nI c) 32 := vp_in_nI (by omega) (by omega)
    have h0 : (0 : Int32) ≤ nI c := nI_pos' (by omega)
    have e : (nI c).toNatClampNeg = c := nI_clamp (by omega)
    have hr8 := sg_cr8 hR hC hc
    obtain ⟨g, hg, eg⟩ := sg_g8 hR hS.2.2.1 hC hc
    refine br_t h0 ⟨hv, ?_⟩
    rw [e] at yin ⊢
    by_cases h1 : rr c = 0
    · refine br_t h1 ?_
      have both : ∀ z : Int32, ((∀ post : Int32 → SY → Prop, wY_report_38 post (nI c) z (nI c) (nI R) (nI L) wl (nI m) sr (nI l) gr wn cr np nq st hd rr lg sa ba ad rd rh → wpY_report post (nI R, nI L, wl, nI m, sr, nI l, gr, wn, cr, np, nq, st, hd, rr, lg, sa, ba, ad, rd, rh) v1 b)) → wX_report_44 (fun r u' => wpY_report (fun r' v' => r' = r ∧ i_Rel (k + 4) u' v') (nI R, nI L, wl, nI m, sr, nI l, gr, wn, cr, np, nq, st, hd, rr, lg, sa, ba, ad, rd, rh) v1 b) (nI c) (nI l) z (nI c) (nI R) (nI L) wl (nI l) (nI m) sr iw gr wn cr st dn an hd rs rr ex lg := by
        intro z hz
        obtain ⟨l', sr', iw', wn', st', hd', rs', rr', ex', lg', sa', ba', ad', rd', rh', k1, k2, kX, kY⟩ := sg_settle (R := R) (L := L) (m := m) (l := l) (wl := wl) (sr := sr) (iw := iw) (gr := gr) (wn := wn) (cr := cr) (st := st) (dn := dn) (an := an) (hd := hd) (rs := rs) (rr := (upd rr c z)) (ex := ex) (lg := lg) (np := np) (nq := nq) (sa := sa) (ba := ba) (ad := ad) (rd := rd) (rh := rh) (g := g) hg hS hl hH
        unfold wX_report_44
        rw [e, eg]
        refine ⟨hv, nm_e ⟨hv, hr8, kX _ (hz _ ?_)⟩⟩
        unfold wY_report_38
        rw [e, eg]
        exact ⟨hv, nm_e ⟨hv, hr8, kY _ ⟨rfl, sg_in (k + 4) hS hL k1 k2⟩⟩⟩
      exact br_c (fun hb => both 2 (fun post h => yin post (br_t h0 ⟨hv, br_t h1 (br_t hb h)⟩))) (fun hb => both 1 (fun post h => yin post (br_t h0 ⟨hv, br_t h1 (br_f hb h)⟩)))
    · exact br_f h1 (yin _ (br_t h0 ⟨hv, br_f h1 ⟨rfl, K⟩⟩))
section
variable {R L m l : Nat} {wl sr iw : Int32} {gr wn cr st dn an hd rs rr ex lg np nq sa ba ad rd rh : Nat → Int32}
theorem sg_wx {post : Int32 → SX → Prop} {ch i n : Nat} {x : Int32} (hm : m ≤ 32) (hch : ch < m) (hi : i < m) (h : wX_withdraw_52 post (wX_withdraw_17 post (nI ch) n) (nI ch) x (nI i) (sg_i (decide (i = ch) || bt (an i) ch)) (nI R) (nI L) wl (nI l) (nI m) sr iw gr wn cr st dn an hd rs rr ex lg) : wX_withdraw_17 post (nI ch) (n + 1) x (nI i) (nI R) (nI L) wl (nI l) (nI m) sr iw gr wn cr st dn an hd rs rr ex lg := by
  have e : (nI i).toNatClampNeg = i := nI_clamp (by omega)
  have hv : vp_in (nI i) 32 := vp_in_nI (by omega) (by omega)
  rw [wX_withdraw_17]
  refine br_f (nI_ge hi (by omega)) ?_
  rw [e]
  refine br_c (fun z => ?_) (fun z => ⟨hv, sg_xh (by omega) (sg_br _ (fun b => ?_) (fun b => ?_))⟩)
  · rw [nI_eq (by omega) (by omega)] at z
    rw [decide_eq_true z, Bool.true_or] at h
    exact h
  · rw [nI_eq (by omega) (by omega)] at z
    rw [decide_eq_false z, b] at h
    exact h
  · rw [b, Bool.or_true] at h
    exact h
theorem sg_wy {ch i n : Nat} {x : Int32} (hm : m ≤ 32) (hN : sg_Nd m np nq dn an) (hch : ch < m) (hi : i < m) (hs : st i = 0) : ∃ rh' : Nat → Int32, ∀ post : Int32 → SY → Prop, ((decide (i = ch) || bt (an i) ch) = true → wY_withdraw_59 post (wY_withdraw_27 post (nI ch) n) (nI ch) x (nI i) (nI R) (nI L) wl (nI m) sr (nI l) gr wn cr np nq st hd rr lg sa ba ad rd rh') → ((decide (i = ch) || bt (an i) ch) = false → wY_withdraw_27 post (nI ch) n x (nI (i + 1)) (nI R) (nI L) wl (nI m) sr (nI l) gr wn cr np nq st hd rr lg sa ba ad rd rh') → wY_withdraw_27 post (nI ch) (n + 1) x (nI i) (nI R) (nI L) wl (nI m) sr (nI l) gr wn cr np nq st hd rr lg sa ba ad rd rh := by
  have e : (nI i).toNatClampNeg = i := nI_clamp (by omega)
  have hv : vp_in (nI i) 32 := vp_in_nI (by omega) (by omega)
  by_cases z : i = ch
  · refine ⟨rh, fun post h1 h2 => ?_⟩
    rw [wY_withdraw_27]
    refine br_f (nI_ge hi (by omega)) ⟨hv, ?_⟩
    rw [e]
    exact br_t hs (br_t (by rw [z]) (h1 (by rw [decide_eq_true z]; rfl)))
  · obtain ⟨rh1, hn⟩ := sg_needs (R := R) (L := L) (m := m) (l := l) (wl := wl) (sr := sr) (gr := gr) (wn := wn) (cr := cr) (st := st) (dn := dn) (an := an) (hd := hd) (rr := rr) (lg := lg) (np := np) (nq := nq) (sa := sa) (ba := ba) (ad := ad) (rd := rd) (rh := rh) hm hN hch hi
    refine ⟨rh1, fun post h1 h2 => ?_⟩
    have hz : ¬ nI i = nI ch := fun y => z ((nI_eq (by omega) (by omega)).mp y)
    rw [wY_withdraw_27]
    refine br_f (nI_ge hi (by omega)) ⟨hv, ?_⟩
    rw [e]
    refine br_t hs (br_f hz (hn _ (sg_br1 _ (fun b => ?_) (fun b => ?_))))
    · exact h1 (by rw [b, Bool.or_true])
    · exact nm_r (nI_1 i) (h2 (by rw [b, decide_eq_false z]; rfl))
theorem sg_wdp {ch : Nat} {x : Int32} (hm : m ≤ 32) (hN : sg_Nd m np nq dn an) (hch : ch < m) : ∀ k i (rh : Nat → Int32), i + k = ch → ∃ rh' : Nat → Int32, ∀ post : Int32 → SY → Prop, ∀ n, wY_withdraw_27 post (nI ch) n x (nI ch) (nI R) (nI L) wl (nI m) sr (nI l) gr wn cr np nq st hd rr lg sa ba ad rd rh' → wY_withdraw_27 post (nI ch) (n + k) x (nI i) (nI R) (nI L) wl (nI m) sr (nI l) gr wn cr np nq st hd rr lg sa ba ad rd rh := by
  intro k
  induction k with
  | zero =>
    intro i rh hi
    have e : i = ch := by omega
    subst e
    exact ⟨rh, fun post n h => h⟩
  | succ k ih =>
    intro i rh hi
    have e : (nI i).toNatClampNeg = i := nI_clamp (by omega)
    have hv : vp_in (nI i) 32 := vp_in_nI (by omega) (by omega)
    by_cases hs : st i = 0
    · obtain ⟨rh1, hn⟩ := sg_needs (R := R) (L := L) (m := m) (l := l) (wl := wl) (sr := sr) (gr := gr) (wn := wn) (cr := cr) (st := st) (dn := dn) (an := an) (hd := hd) (rr := rr) (lg := lg) (np := np) (nq := nq) (sa := sa) (ba := ba) (ad := ad) (rd := rd) (rh := rh) hm hN hch (show i < m by omega)
      obtain ⟨rh', h2⟩ := ih (i + 1) rh1 (by omega)
      refine ⟨rh', fun post n h => ?_⟩
      have hb : bt (an i) ch = false := by
        cases hb : bt (an i) ch with
        | false => rfl
        | true => have := sg_anlt hm hN (show ch < 32 by omega) i (by omega) hb; omega
      have hz : ¬ nI i = nI ch := fun y => by
        have := (nI_eq (by omega) (by omega)).mp y
        omega
      show wY_withdraw_27 post (nI ch) (n + k + 1) x (nI i) (nI R) (nI L) wl (nI m) sr (nI l) gr wn cr np nq st hd rr lg sa ba ad rd rh
      rw [wY_withdraw_27]
      refine br_f (nI_ge (by omega) (by omega)) ⟨hv, ?_⟩
      rw [e]
      refine br_t hs (br_f hz (hn _ ?_))
      rw [hb]
      exact br_f (by decide) (nm_r (nI_1 i) (h2 post n h))
    · obtain ⟨rh', h2⟩ := ih (i + 1) rh (by omega)
      refine ⟨rh', fun post n h => ?_⟩
      show wY_withdraw_27 post (nI ch) (n + k + 1) x (nI i) (nI R) (nI L) wl (nI m) sr (nI l) gr wn cr np nq st hd rr lg sa ba ad rd rh
      rw [wY_withdraw_27]
      refine br_f (nI_ge (by omega) (by omega)) ⟨hv, ?_⟩
      rw [e]
      exact br_f hs (nm_r (nI_1 i) (h2 post n h))
theorem sg_wdl {ch : Nat} (hm : m ≤ 32) (hN : sg_Nd m np nq dn an) (hch : ch < m) : ∀ k i (x : Int32) (st hd rh : Nat → Int32), i + k = m → ∃ (x' : Int32) (st' hd' rh' : Nat → Int32), (∀ c, hd' c = hd c ∨ hd' c = 0) ∧ (∀ post : Int32 → SX → Prop, wX_withdraw_17 post (nI ch) 1 x' (nI m) (nI R) (nI L) wl (nI l) (nI m) sr iw gr wn cr st' dn an hd' rs rr ex lg → wX_withdraw_17 post (nI ch) (k + 1) x (nI i) (nI R) (nI L) wl (nI l) (nI m) sr iw gr wn cr st dn an hd rs rr ex lg) ∧ (∀ post : Int32 → SY → Prop, wY_withdraw_27 post (nI ch) 1 x' (nI m) (nI R) (nI L) wl (nI m) sr (nI l) gr wn cr np nq st' hd' rr lg sa ba ad rd rh' → wY_withdraw_27 post (nI ch) (k + 1) x (nI i) (nI R) (nI L) wl (nI m) sr (nI l) gr wn cr np nq st hd rr lg sa ba ad rd rh) := by
  intro k
  induction k with
  | zero =>
    intro i x st hd rh hi
    have e : i = m := by omega
    subst e
    exact ⟨x, st, hd, rh, fun _ => Or.inl rfl, fun post h => h, fun post h => h⟩
  | succ k ih =>
    intro i x st hd rh hi
    have e : (nI i).toNatClampNeg = i := nI_clamp (by omega)
    have hv : vp_in (nI i) 32 := vp_in_nI (by omega) (by omega)
    have him : i < m := by omega
    by_cases hs : st i = 0
    · obtain ⟨rh1, hy⟩ := sg_wy (R := R) (L := L) (m := m) (l := l) (wl := wl) (sr := sr) (gr := gr) (wn := wn) (cr := cr) (st := st) (dn := dn) (an := an) (hd := hd) (rr := rr) (lg := lg) (np := np) (nq := nq) (sa := sa) (ba := ba) (ad := ad) (rd := rd) (rh := rh) (n := k + 1) (x := x) hm hN hch him hs
      cases ht : (decide (i = ch) || bt (an i) ch) with
      | true =>
        obtain ⟨x', st', hd', rh', k1, kX, kY⟩ := ih (i + 1) (x + 1) (upd st i 4) (upd hd i 0) rh1 (by omega)
        refine ⟨x', st', hd', rh', sg_t0 sg_u0 k1, fun post h => sg_wx hm hch him ?_, fun post h => hy post (fun _ => ?_) (fun z => absurd (ht.symm.trans z) (by decide))⟩
        · rw [ht]
          unfold wX_withdraw_52
          refine br_f (by decide) ⟨hv, ?_⟩
          rw [e]
          refine br_t hs ?_
          unfold wpX_close
          dsimp only
          rw [e]
          exact ⟨hv, nm_e ⟨hv, nm_e (nm_e (nm_r (nI_1 i) (kX post h)))⟩⟩
        · unfold wY_withdraw_59 wpY_close
          dsimp only
          rw [e]
          exact ⟨hv, nm_e ⟨hv, nm_e (br_t rfl (nm_e (nm_r (nI_1 i) (kY post h))))⟩⟩
      | false =>
        obtain ⟨x', st', hd', rh', k1, kX, kY⟩ := ih (i + 1) x st hd rh1 (by omega)
        refine ⟨x', st', hd', rh', k1, fun post h => sg_wx hm hch him ?_, fun post h => hy post (fun z => absurd (ht.symm.trans z) (by decide)) (fun _ => kY post h)⟩
        rw [ht]
        unfold wX_withdraw_52
        exact br_t rfl (nm_r (nI_1 i) (kX post h))
    · obtain ⟨x', st', hd', rh', k1, kX, kY⟩ := ih (i + 1) x st hd rh (by omega)
      refine ⟨x', st', hd', rh', k1, fun post h => sg_wx hm hch him ?_, fun post h => ?_⟩
      · unfold wX_withdraw_52
        rw [e]
        exact sg_br _ (fun _ => nm_r (nI_1 i) (kX post h)) (fun _ => ⟨hv, br_f hs (nm_r (nI_1 i) (kX post h))⟩)
      · rw [wY_withdraw_27]
        refine br_f (nI_ge him (by omega)) ⟨hv, ?_⟩
        rw [e]
        exact br_f hs (nm_r (nI_1 i) (kY post h))
end
theorem i_vc_withdraw {k : Nat} {u : SX} {v : SY} (I : i_Rel k u v) (hk : k + 4 ≤ 2052) (v1 : Int32) : wpX_withdraw (fun r u' => wpY_withdraw (fun r' v' => r' = r ∧ i_Rel (k + 4) u' v') v v1) u v1 := by
  refine sg_el (P := fun u v => wpX_withdraw (fun r u' => wpY_withdraw (fun r' v' => r' = r ∧ i_Rel (k + 4) u' v') v v1) u v1) ?_ I
  intro R L m l wl sr iw gr wn cr st dn an hd rs rr ex lg np nq sa ba ad rd rh hS hL hl hH
  have hR := hS.1
  have hm := hS.2.1
  have hC := hS.2.2.2.1
  have hN := hS.2.2.2.2.1
  have K := sg_in (R := R) (L := L) (m := m) (l := l) (wl := wl) (sr := sr) (iw := iw) (gr := gr) (wn := wn) (cr := cr) (st := st) (dn := dn) (an := an) (hd := hd) (rs := rs) (rr := rr) (ex := ex) (lg := lg) (np := np) (nq := nq) (sa := sa) (ba := ba) (ad := ad) (rd := rd) (rh := rh) (k + 4) hS hL hl hH
  unfold wpX_withdraw
  dsimp only
  by_cases h : ∃ j, j < m ∧ v1 = nI j
  · obtain ⟨ch, hch, rfl⟩ := h
    have e : (nI ch).toNatClampNeg = ch := nI_clamp (by omega)
    have hv : vp_in (nI ch) 32 := vp_in_nI (by omega) (by omega)
    have hr8 := sg_cr8 hR hC hch
    refine sg_xq1 hm hch (fun h0 => br_t rfl ?_) (fun h0 => br_f (by decide) ?_)
    · obtain ⟨rh1, hp⟩ := sg_wdp (R := R) (L := L) (m := m) (l := l) (wl := wl) (sr := sr) (gr := gr) (wn := wn) (cr := cr) (st := st) (dn := dn) (an := an) (hd := hd) (rr := rr) (lg := lg) (np := np) (nq := nq) (sa := sa) (ba := ba) (ad := ad) (rd := rd) (x := 0) hm hN hch ch 0 rh (by omega)
      obtain ⟨x', st', hd', rh', k1, kX, kY⟩ := sg_wdl (R := R) (L := L) (m := m) (l := l) (wl := wl) (sr := sr) (iw := iw) (gr := gr) (wn := wn) (cr := cr) (dn := dn) (an := an) (rs := rs) (rr := rr) (ex := ex) (lg := lg) (np := np) (nq := nq) (sa := sa) (ba := ba) (ad := ad) (rd := rd) hm hN hch (m - ch) ch 0 st hd rh1 (by omega)
      obtain ⟨g, hg, eg⟩ := sg_g8 hR hS.2.2.1 hC hch
      obtain ⟨l2, sr2, iw2, wn2, st2, hd2, rs2, rr2, ex2, lg2, sa2, ba2, ad2, rd2, rh2, q1, q2, qX, qY⟩ := sg_settle (R := R) (L := L) (m := m) (l := l) (wl := wl) (sr := sr) (iw := iw) (gr := gr) (wn := wn) (cr := cr) (st := st') (dn := dn) (an := an) (hd := hd') (rs := rs) (rr := rr) (ex := ex) (lg := lg) (np := np) (nq := nq) (sa := sa) (ba := ba) (ad := ad) (rd := rd) (rh := rh') (g := g) hg hS hl (sg_R0 hH k1)
      refine ⟨_, kX _ ?_⟩
      rw [wX_withdraw_17]
      refine br_t (Int32.le_refl _) ⟨hv, ?_⟩
      rw [e, eg]
      refine ⟨hr8, qX _ ?_⟩
      dsimp only
      unfold wpY_withdraw
      dsimp only
      refine sg_yc1 (by omega) hch (br_f (by decide) ⟨hv, ?_⟩)
      rw [e]
      refine br_t h0 ⟨_, hp _ _ (kY _ ?_)⟩
      rw [wY_withdraw_27]
      refine br_t (Int32.le_refl _) ⟨hv, ?_⟩
      rw [e, eg]
      exact ⟨hr8, qY _ ⟨rfl, sg_in (k + 4) hS hL q1 q2⟩⟩
    · unfold wpY_withdraw
      dsimp only
      refine sg_yc1 (by omega) hch (br_f (by decide) ⟨hv, ?_⟩)
      rw [e]
      exact br_f h0 ⟨rfl, K⟩
  · refine sg_xq0 hm h (br_f (by decide) ?_)
    unfold wpY_withdraw
    dsimp only
    exact sg_yc0 (by omega) h (br_t rfl ⟨rfl, K⟩)
end
section
/-! the constructors -/
def sg_clamp (p a b : Int32) : Int32 := if a ≤ p then (if p ≤ b then p else b) else a
theorem sg_xcl {post : Int32 → Prop} {u : SX} {p a b : Int32} (h : post (sg_clamp p a b)) : wpX_clamp post u p a b := by
  obtain ⟨u1, u2, u3, u4, u5, u6, u7, u8, u9, u10, u11, u12, u13, u14, u15, u16, u17, u18⟩ := u
  unfold wpX_clamp
  dsimp only
  unfold sg_clamp at h
  refine br_c (fun z => br_c (fun y => ?_) (fun y => ?_)) (fun z => ?_)
  · rw [if_pos z, if_pos y] at h; exact h
  · rw [if_pos z, if_neg y] at h; exact h
  · rw [if_neg z] at h; exact h
theorem sg_ycl {post : Int32 → Prop} {u : SY} {p a b : Int32} (h : post (sg_clamp p a b)) : wpY_clamp post u p a b := by
  obtain ⟨u1, u2, u3, u4, u5, u6, u7, u8, u9, u10, u11, u12, u13, u14, u15, u16, u17, u18, u19, u20⟩ := u
  unfold wpY_clamp
  dsimp only
  unfold sg_clamp at h
  refine br_c (fun z => br_c (fun y => ?_) (fun y => ?_)) (fun z => ?_)
  · rw [if_pos z, if_pos y] at h; exact h
  · rw [if_pos z, if_neg y] at h; exact h
  · rw [if_neg z] at h; exact h
theorem sg_clr {p a b : Int32} {n : Nat} (h0 : 0 ≤ a) (hab : a ≤ b) (hn : b.toInt = n) : ∃ j : Nat, j ≤ n ∧ sg_clamp p a b = nI j := by
  have h : a ≤ sg_clamp p a b ∧ sg_clamp p a b ≤ b := by
    unfold sg_clamp
    by_cases z : a ≤ p
    · rw [if_pos z]
      by_cases y : p ≤ b
      · rw [if_pos y]; exact ⟨z, y⟩
      · rw [if_neg y]; exact ⟨hab, Int32.le_refl _⟩
    · rw [if_neg z]; exact ⟨Int32.le_refl _, hab⟩
  exact nI_of2 hn (Int32.not_lt.mpr (Int32.le_trans h0 h.1)) h.2
section
variable {rc cl ls ac : Int32}
variable {R L m l : Nat} {wl sr iw : Int32} {gr wn cr st dn an hd rs rr ex lg np nq sa ba ad rd rh : Nat → Int32}
theorem sg_inl {f : Int32} : ∀ k i (gr wn : Nat → Int32), i + k = 8 → (∀ r, r < i → gr r = nI r) → ∃ gr' wn' : Nat → Int32, (∀ r, r < 8 → gr' r = nI r) ∧ (∀ post : SX → Prop, post (rc, cl, wl, ls, ac, sr, iw, gr', wn', cr, st, dn, an, hd, rs, rr, ex, lg) → wX_init_144 post f rc cl wl ls ac sr iw (k + 1) (nI i) gr wn cr st dn an hd rs rr ex lg) ∧ (∀ post : SY → Prop, post (rc, cl, wl, ac, sr, ls, gr', wn', cr, np, nq, st, hd, rr, lg, sa, ba, ad, rd, rh) → wY_init_169 post f rc cl wl ac sr ls (k + 1) (nI i) gr wn cr np nq st hd rr lg sa ba ad rd rh) := by
  intro k
  induction k with
  | zero =>
    intro i gr wn hi hG
    have h : (8 : Int32) ≤ nI i := nI_le (a := 8) (by omega) (by omega)
    refine ⟨gr, wn, fun r hr => hG r (by omega), fun post hp => ?_, fun post hp => ?_⟩
    · rw [wX_init_144]; exact br_t h hp
    · rw [wY_init_169]; exact br_t h hp
  | succ k ih =>
    intro i gr wn hi hG
    have h : ¬ (8 : Int32) ≤ nI i := nI_ge (b := 8) (by omega) (by omega)
    have e : (nI i).toNatClampNeg = i := nI_clamp (by omega)
    have hv : vp_in (nI i) 8 := vp_in_nI (by omega) (by omega)
    obtain ⟨gr', wn', hG', hX, hY⟩ := ih (i + 1) (upd gr i (nI i)) (upd wn i f) (by omega) (by
      intro r hr
      by_cases er : r = i
      · subst er; exact pk_us
      · rw [pk_un er]; exact hG r (by omega))
    refine ⟨gr', wn', hG', fun post hp => ?_, fun post hp => ?_⟩
    · rw [wX_init_144]
      refine br_f h ⟨hv, ?_⟩
      rw [e]
      exact nm_e ⟨hv, nm_e (nm_r (nI_1 i) (hX post hp))⟩
    · rw [wY_init_169]
      refine br_f h ⟨hv, ?_⟩
      rw [e]
      exact nm_e ⟨hv, nm_e (nm_r (nI_1 i) (hY post hp))⟩
end
theorem i_vc0 (k0 : Int32) (k1 : Int32) (k2 : Int32) (k3 : Int32) : wpX_init (fun u => wpY_init (fun v => i_Rel 4 u v) k0 k1 k2 k3) k0 k1 k2 k3 := by
  obtain ⟨R, hR, eR⟩ := sg_clr (p := k0) (a := 2) (b := 8) (n := 8) (by decide) (by decide) (by decide)
  obtain ⟨L, hL, eL⟩ := sg_clr (p := k1) (a := 8) (b := 32) (n := 32) (by decide) (by decide) (by decide)
  obtain ⟨gr, wn, hG, hX, hY⟩ := sg_inl (rc := nI R) (cl := nI L) (ls := 0) (ac := 0) (wl := sg_clamp k3 8 16) (sr := 0) (iw := 0) (cr := fun _ => 0) (st := fun _ => 0) (dn := fun _ => 0) (an := fun _ => 0) (hd := fun _ => 0) (rs := fun _ => 0) (rr := fun _ => 0) (ex := fun _ => 0) (lg := fun _ => 0) (np := fun _ => 0) (nq := fun _ => 0) (sa := fun _ => 0) (ba := fun _ => 0) (ad := fun _ => 0) (rd := fun _ => 0) (rh := fun _ => 0) (f := sg_clamp k2 1 8) 8 0 (fun _ => 0) (fun _ => 0) (by omega) (fun r hr => absurd hr (Nat.not_lt_zero r))
  unfold wpX_init
  refine sg_xcl ?_
  rw [eR]
  refine sg_xcl ?_
  rw [eL]
  refine sg_xcl (sg_xcl ⟨9, hX _ ?_⟩)
  unfold wpY_init
  refine sg_ycl ?_
  rw [eR]
  refine sg_ycl ?_
  rw [eL]
  refine sg_ycl (sg_ycl ⟨9, hY _ ?_⟩)
  refine sg_in (m := 0) (l := 0) 4 ⟨hR, by omega, ⟨fun r hr => ⟨r, hr, hG r (by omega)⟩, fun r _ h8 => hG r h8⟩, fun c hc => absurd hc (Nat.not_lt_zero c), fun c hc => absurd hc (Nat.not_lt_zero c), fun c _ => ⟨rfl, rfl⟩⟩ hL (by omega) (fun c _ hn => absurd rfl hn)
end
