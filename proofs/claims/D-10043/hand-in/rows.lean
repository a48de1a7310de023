section
/-- an integer as an int of the machine -/
def sw_i (z : Int) : Int32 := Int32.ofInt z
/-- a place written -/
def sw_u {α : Type} (f : Nat → α) (k : Nat) (x : α) : Nat → α := fun j => if j = k then x else f j
theorem sw_us {α : Type} {f : Nat → α} {k : Nat} {x : α} : sw_u f k x k = x := if_pos rfl
theorem sw_un {α : Type} {f : Nat → α} {k j : Nat} {x : α} (h : j ≠ k) : sw_u f k x j = f j := if_neg h
theorem sw_n (n : Nat) : nI n = sw_i (n : Int) := (Int32.ofInt_eq_ofNat).symm
theorem sw_add (a b : Int) : sw_i a + sw_i b = sw_i (a + b) := (Int32.ofInt_add a b).symm
theorem sw_sub (a b : Int) : sw_i a - sw_i b = sw_i (a - b) := (Int32.ofInt_sub a b).symm
theorem sw_mul (a b : Int) : sw_i a * sw_i b = sw_i (a * b) := (Int32.ofInt_mul a b).symm
theorem sw_p1 (a : Int) : sw_i a + 1 = sw_i (a + 1) := sw_add a 1
theorem sw_to {a : Int} (h : -2147483648 ≤ a) (h' : a < 2147483648) : (sw_i a).toInt = a := Int32.toInt_ofInt_of_le (by omega) (by omega)
theorem sw_le {a b : Int} (h1 : -2147483648 ≤ a) (h2 : a < 2147483648) (h3 : -2147483648 ≤ b) (h4 : b < 2147483648) : sw_i a ≤ sw_i b ↔ a ≤ b := by
  rw [Int32.le_iff_toInt_le, sw_to h1 h2, sw_to h3 h4]
theorem sw_lt {a b : Int} (h1 : -2147483648 ≤ a) (h2 : a < 2147483648) (h3 : -2147483648 ≤ b) (h4 : b < 2147483648) : sw_i a < sw_i b ↔ a < b := by
  rw [Int32.lt_iff_toInt_lt, sw_to h1 h2, sw_to h3 h4]
theorem sw_eq {a b : Int} (h1 : -2147483648 ≤ a) (h2 : a < 2147483648) (h3 : -2147483648 ≤ b) (h4 : b < 2147483648) : sw_i a = sw_i b ↔ a = b := by
  constructor
  · intro h
    have e := congrArg Int32.toInt h
    rw [sw_to h1 h2, sw_to h3 h4] at e
    exact e
  · intro h
    rw [h]
theorem sw_ble {x y : Int32} {A B : Prop} (a b : Int) (hx : x = sw_i a) (hy : y = sw_i b) (f : a ≤ b → A) (g : b < a → B)
    (h1 : -2147483648 ≤ a := by omega) (h2 : a < 2147483648 := by omega) (h3 : -2147483648 ≤ b := by omega) (h4 : b < 2147483648 := by omega) : (x ≤ y → A) ∧ (¬ x ≤ y → B) := by
  subst hx hy
  rw [sw_le h1 h2 h3 h4]
  exact ⟨f, fun z => g (by omega)⟩
theorem sw_blt {x y : Int32} {A B : Prop} (a b : Int) (hx : x = sw_i a) (hy : y = sw_i b) (f : a < b → A) (g : b ≤ a → B)
    (h1 : -2147483648 ≤ a := by omega) (h2 : a < 2147483648 := by omega) (h3 : -2147483648 ≤ b := by omega) (h4 : b < 2147483648 := by omega) : (x < y → A) ∧ (¬ x < y → B) := by
  subst hx hy
  rw [sw_lt h1 h2 h3 h4]
  exact ⟨f, fun z => g (by omega)⟩
theorem sw_beq {x y : Int32} {A B : Prop} (a b : Int) (hx : x = sw_i a) (hy : y = sw_i b) (f : a = b → A) (g : a ≠ b → B)
    (h1 : -2147483648 ≤ a := by omega) (h2 : a < 2147483648 := by omega) (h3 : -2147483648 ≤ b := by omega) (h4 : b < 2147483648 := by omega) : (x = y → A) ∧ (¬ x = y → B) := by
  subst hx hy
  rw [sw_eq h1 h2 h3 h4]
  exact ⟨f, fun z => g z⟩
theorem sw_vin {x : Int32} {N : Nat} (a : Int) (hx : x = sw_i a) (h0 : 0 ≤ a) (h : a < N) (hN : N < 2147483648 := by omega) : vp_in x N := by
  subst hx
  rw [vp_in_iff, sw_to (by omega) (by omega)]
  exact ⟨h0, h⟩
theorem sw_nn {a : Int} (h : 0 ≤ a) : sw_i a = nI a.toNat := by
  rw [sw_n, Int.toNat_of_nonneg h]
theorem sw_div {a b : Int} (h0 : 0 ≤ a) (h1 : a < 2147483648) (h2 : 0 < b) (h3 : b < 2147483648) : sw_i a / sw_i b = sw_i (a / b) := by
  rw [sw_nn h0, sw_nn (by omega : 0 ≤ b), pk_div (by omega) (by omega) (by omega), sw_n]
  congr 1
  rw [Int.natCast_ediv, Int.toNat_of_nonneg h0, Int.toNat_of_nonneg (by omega)]
theorem sw_e32 (k n : Nat) : (32 : Int32) * nI k + nI n = nI (32 * k + n) := by
  show nI 32 * nI k + nI n = _
  rw [pk_mul, nI_add]
theorem sw_e32' (k : Nat) : (32 : Int32) * nI k = nI (32 * k) := by
  show nI 32 * nI k = _
  rw [pk_mul]
theorem sw_e64 (k n : Nat) : (64 : Int32) * nI k + nI n = nI (64 * k + n) := by
  show nI 64 * nI k + nI n = _
  rw [pk_mul, nI_add]
theorem sw_e20 (k n : Nat) : (20 : Int32) * nI k + nI n = nI (20 * k + n) := by
  show nI 20 * nI k + nI n = _
  rw [pk_mul, nI_add]
theorem sw_e7 (k n : Nat) : (7 : Int32) * nI k + nI n = nI (7 * k + n) := by
  show nI 7 * nI k + nI n = _
  rw [pk_mul, nI_add]
/-- sums of n places from b on -/
def sw_sm (f : Nat → Int) (b : Nat) : Nat → Int
  | 0 => 0
  | n + 1 => sw_sm f b n + f (b + n)
theorem sw_sm_sh {f g : Nat → Int} {b c : Nat} : ∀ n, (∀ i, i < n → f (b + i) = g (c + i)) → sw_sm f b n = sw_sm g c n
  | 0, _ => rfl
  | n + 1, h => by
    show sw_sm f b n + f (b + n) = sw_sm g c n + g (c + n)
    rw [sw_sm_sh n (fun i hi => h i (by omega)), h n (by omega)]
theorem sw_sm_sp (f : Nat → Int) (b n : Nat) : ∀ m, sw_sm f b (n + m) = sw_sm f b n + sw_sm f (b + n) m
  | 0 => by
    show sw_sm f b n = sw_sm f b n + 0
    omega
  | m + 1 => by
    show sw_sm f b (n + m) + f (b + (n + m)) = sw_sm f b n + (sw_sm f (b + n) m + f (b + n + m))
    rw [sw_sm_sp f b n m, Nat.add_assoc b n m]
    omega
theorem sw_sm_1 (f : Nat → Int) (b : Nat) : sw_sm f b 1 = f b := by
  show 0 + f (b + 0) = f b
  rw [Nat.add_zero]
  omega
theorem sw_sm_nn {f : Nat → Int} {b : Nat} : ∀ n, (∀ i, i < n → 0 ≤ f (b + i)) → 0 ≤ sw_sm f b n
  | 0, _ => Int.le_refl 0
  | n + 1, h => by
    have h1 := sw_sm_nn n (fun i hi => h i (by omega))
    have h2 := h n (by omega)
    show 0 ≤ sw_sm f b n + f (b + n)
    omega
theorem sw_sm_ge {f : Nat → Int} {b : Nat} : ∀ n, (∀ i, i < n → 0 ≤ f (b + i)) → ∀ i, i < n → f (b + i) ≤ sw_sm f b n
  | 0, _, i, hi => absurd hi (by omega)
  | n + 1, h, i, hi => by
    have h1 := sw_sm_nn n (fun i hi => h i (by omega))
    have h2 := h n (by omega)
    show f (b + i) ≤ sw_sm f b n + f (b + n)
    by_cases e : i = n
    · rw [e]; omega
    · have := sw_sm_ge n (fun i hi => h i (by omega)) i (by omega)
      omega
theorem sw_sm_n {f : Nat → Int} {b : Nat} : ∀ n : Nat, (∀ i, i < n → 1 ≤ f (b + i)) → (n : Int) ≤ sw_sm f b n
  | 0, _ => Int.le_refl 0
  | n + 1, h => by
    have h1 := sw_sm_n n (fun i hi => h i (by omega))
    have h2 := h n (by omega)
    show ((n + 1 : Nat) : Int) ≤ sw_sm f b n + f (b + n)
    omega
/-- one place changed inside -/
theorem sw_sm_c {f g : Nat → Int} {b k n : Nat} (h : ∀ j, j ≠ k → g j = f j) (h1 : b ≤ k) (h2 : k < b + n) : sw_sm g b n = sw_sm f b n + (g k - f k) := by
  obtain ⟨m, rfl⟩ : ∃ m, k = b + m := ⟨k - b, by omega⟩
  obtain ⟨r, rfl⟩ : ∃ r, n = m + (1 + r) := ⟨n - m - 1, by omega⟩
  rw [sw_sm_sp f b m, sw_sm_sp g b m, sw_sm_sp f (b + m) 1, sw_sm_sp g (b + m) 1, sw_sm_1, sw_sm_1]
  rw [sw_sm_sh (f := g) (g := f) (b := b) (c := b) m (fun i hi => h _ (by omega)), sw_sm_sh (f := g) (g := f) (b := b + m + 1) (c := b + m + 1) r (fun i hi => h _ (by omega))]
  omega
/-- one place changed outside -/
theorem sw_sm_o {f g : Nat → Int} {b k n : Nat} (h : ∀ j, j ≠ k → g j = f j) (h1 : k < b ∨ b + n ≤ k) : sw_sm g b n = sw_sm f b n :=
  sw_sm_sh n (fun i hi => h _ (by omega))
/-- one put in -/
theorem sw_sm_in {f g : Nat → Int} {b m r : Nat} (h1 : ∀ i, i < m → g (b + i) = f (b + i)) (h2 : ∀ i, i < r → g (b + m + 1 + i) = f (b + m + i)) : sw_sm g b (m + r + 1) = sw_sm f b (m + r) + g (b + m) := by
  rw [show m + r + 1 = m + (1 + r) by omega, sw_sm_sp f b m, sw_sm_sp g b m, sw_sm_sp g (b + m) 1, sw_sm_1]
  rw [sw_sm_sh (f := g) (g := f) (b := b) (c := b) m h1, sw_sm_sh (f := g) (g := f) (b := b + m + 1) (c := b + m) r h2]
  omega
/-- one taken out -/
theorem sw_sm_out {f g : Nat → Int} {b m r : Nat} (h1 : ∀ i, i < m → g (b + i) = f (b + i)) (h2 : ∀ i, i < r → g (b + m + i) = f (b + m + 1 + i)) : sw_sm f b (m + r + 1) = sw_sm g b (m + r) + f (b + m) :=
  sw_sm_in (f := g) (g := f) (fun i hi => (h1 i hi).symm) (fun i hi => (h2 i hi).symm)
end
section
/-- a pane: events, sum, least, most -/
abbrev sw_PP : Type := Int × Int × Int × Int
/-- a session: first, last, events, sum, least, most -/
abbrev sw_SS : Type := Int × Int × Int × Int × Int × Int
/-- a result: key, start, end, events, sum, least, most -/
abbrev sw_RR : Type := Int × Int × Int × Int × Int × Int × Int
/-- a value goes into a pane -/
def sw_pv (p : sw_PP) (v : Int) : sw_PP := (p.1 + 1, p.2.1 + v, if p.1 = 0 ∨ v < p.2.2.1 then v else p.2.2.1, if p.1 = 0 ∨ p.2.2.2 < v then v else p.2.2.2)
/-- takeIntoPane: late events, panes -/
def sw_tp (W P mk lc : Int) (pn : Nat → sw_PP) (t : Int) (k : Nat) (v : Int) : Int × (Nat → sw_PP) :=
  if mk < (t / W + P) * W then (lc, sw_u pn (64 * k + (t / W).toNat) (sw_pv (pn (64 * k + (t / W).toNat)) v)) else (lc + 1, pn)
/-- a pane goes into a sum -/
def sw_ad (a b : sw_PP) : sw_PP := (a.1 + b.1, a.2.1 + b.2.1, if a.1 = 0 ∨ b.2.2.1 < a.2.2.1 then b.2.2.1 else a.2.2.1, if a.1 = 0 ∨ a.2.2.2 < b.2.2.2 then b.2.2.2 else a.2.2.2)
/-- one pane of a window, if it is one and not empty -/
def sw_p1d (pn : Nat → sw_PP) (k : Nat) (w : Int) (a : sw_PP) : sw_PP := if 0 ≤ w ∧ w < 64 ∧ 0 < (pn (64 * k + w.toNat)).1 then sw_ad a (pn (64 * k + w.toNat)) else a
/-- putTogether: n panes from w on -/
def sw_pt (pn : Nat → sw_PP) (k : Nat) : Nat → Int → sw_PP → sw_PP
  | 0, _, a => a
  | n + 1, w, a => sw_pt pn k n (w + 1) (sw_p1d pn k w a)
def sw_tot (pn : Nat → sw_PP) (P : Int) (k : Nat) (w : Int) : sw_PP := sw_pt pn k P.toNat w (0, 0, 0, 0)
/-- results: how many, and which -/
abbrev sw_RS : Type := Nat × (Nat → sw_RR)
def sw_ck (pn : Nat → sw_PP) (W P nw : Int) (k : Nat) (r : sw_RS) : sw_RS :=
  if 0 < (sw_tot pn P k nw).1 then (r.1 + 1, sw_u r.2 r.1 ((k : Int), nw * W, (nw + P) * W, sw_tot pn P k nw)) else r
def sw_cn (pn : Nat → sw_PP) (W P nw : Int) : Nat → Nat → sw_RS → sw_RS
  | 0, _, r => r
  | n + 1, k, r => sw_cn pn W P nw n (k + 1) (sw_ck pn W P nw k r)
/-- closeWindows -/
def sw_cw (pn : Nat → sw_PP) (W P mk : Int) : Nat → Int → sw_RS → Int × sw_RS
  | 0, nw, r => (nw, r)
  | n + 1, nw, r => if nw < 64 ∧ (nw + P) * W ≤ mk then sw_cw pn W P mk n (nw + 1) (sw_cn pn W P nw 4 0 r) else (nw, r)
/-- the first session from q on that isn't over before t, of n -/
def sw_sc (ss : Nat → sw_SS) (W t : Int) : Nat → Nat → Nat
  | 0, q => q
  | n + 1, q => if (ss q).2.1 + W < t then sw_sc ss W t n (q + 1) else q
/-- shift up: places q+1 .. e take what lay below -/
def sw_up (ss : Nat → sw_SS) (q e : Nat) : Nat → sw_SS := fun j => if q < j ∧ j ≤ e then ss (j - 1) else ss j
/-- shift down: places q .. e-1 take what lay above -/
def sw_dn (ss : Nat → sw_SS) (q e : Nat) : Nat → sw_SS := fun j => if q ≤ j ∧ j < e then ss (j + 1) else ss j
def sw_mg (x : sw_SS) (t v : Int) : sw_SS :=
  (if t < x.1 then t else x.1, if x.2.1 < t then t else x.2.1, x.2.2.1 + 1, x.2.2.2.1 + v, if v < x.2.2.2.2.1 then v else x.2.2.2.2.1, if x.2.2.2.2.2 < v then v else x.2.2.2.2.2)
def sw_jn (x y : sw_SS) : sw_SS :=
  (x.1, y.2.1, x.2.2.1 + y.2.2.1, x.2.2.2.1 + y.2.2.2.1, if y.2.2.2.2.1 < x.2.2.2.2.1 then y.2.2.2.2.1 else x.2.2.2.2.1, if x.2.2.2.2.2 < y.2.2.2.2.2 then y.2.2.2.2.2 else x.2.2.2.2.2)
/-- late events, sessions by key, sessions -/
abbrev sw_TS : Type := Int × (Nat → Nat) × (Nat → sw_SS)
/-- takeIntoSession, the place found -/
def sw_tq (W mk lc : Int) (sn : Nat → Nat) (ss : Nat → sw_SS) (t : Int) (k : Nat) (v : Int) (q : Nat) : sw_TS :=
  if q < 32 * k + sn k ∧ (ss q).1 - W ≤ t then
    (if q + 1 < 32 * k + sn k ∧ (ss (q + 1)).1 - W ≤ t then
      (lc, sw_u sn k (sn k - 1), sw_dn (sw_u ss q (sw_jn (sw_mg (ss q) t v) (ss (q + 1)))) (q + 1) (32 * k + (sn k - 1)))
    else (lc, sn, sw_u ss q (sw_mg (ss q) t v)))
  else if t + W ≤ mk then (lc + 1, sn, ss)
  else (lc, sw_u sn k (sn k + 1), sw_u (sw_up ss q (32 * k + sn k)) q (t, t, 1, v, v, v))
def sw_ts (W mk lc : Int) (sn : Nat → Nat) (ss : Nat → sw_SS) (t : Int) (k : Nat) (v : Int) : sw_TS :=
  sw_tq W mk lc sn ss t k v (sw_sc ss W t (sn k) (32 * k))
/-- nextEnding: one key -/
def sw_nk (W mk : Int) (sn : Nat → Nat) (ss : Nat → sw_SS) (k : Nat) (b : Option Nat) : Option Nat :=
  if 0 < sn k ∧ (ss (32 * k)).2.1 + W ≤ mk then
    (match b with
     | none => some k
     | some j => if (ss (32 * k)).2.1 < (ss (32 * j)).2.1 then some k else some j)
  else b
def sw_nn4 (W mk : Int) (sn : Nat → Nat) (ss : Nat → sw_SS) : Nat → Nat → Option Nat → Option Nat
  | 0, _, b => b
  | n + 1, k, b => sw_nn4 W mk sn ss n (k + 1) (sw_nk W mk sn ss k b)
def sw_ne (W mk : Int) (sn : Nat → Nat) (ss : Nat → sw_SS) : Option Nat := sw_nn4 W mk sn ss 4 0 none
abbrev sw_CS : Type := (Nat → Nat) × (Nat → sw_SS) × Nat × (Nat → sw_RR)
/-- one session closed -/
def sw_c1 (W : Int) (k : Nat) (x : sw_CS) : sw_CS :=
  (sw_u x.1 k (x.1 k - 1), sw_dn x.2.1 (32 * k) (32 * k + (x.1 k - 1)), x.2.2.1 + 1,
    sw_u x.2.2.2 x.2.2.1 ((k : Int), (x.2.1 (32 * k)).1, (x.2.1 (32 * k)).2.1 + W, (x.2.1 (32 * k)).2.2))
/-- closeSessions -/
def sw_cs (W mk : Int) : Nat → sw_CS → sw_CS
  | 0, x => x
  | n + 1, x => match sw_ne W mk x.1 x.2.1 with
    | none => x
    | some k => sw_cs W mk n (sw_c1 W k x)
/-- lookAtMark -/
def sw_ow (Q : Int) (gt : Nat → Int) (s : Nat) : Int := if gt s = -1000 then -1000 else gt s - Q
def sw_l1 (Q : Int) (gt : Nat → Int) (ig : Nat → Bool) (s : Nat) (l : Int) : Int := if ig s = false ∧ sw_ow Q gt s < l then sw_ow Q gt s else l
def sw_l3 (Q : Int) (gt : Nat → Int) (ig : Nat → Bool) : Nat → Nat → Int → Int
  | 0, _, l => l
  | n + 1, s, l => sw_l3 Q gt ig n (s + 1) (sw_l1 Q gt ig s l)
def sw_nm (Q : Int) (gt : Nat → Int) (ig : Nat → Bool) (mk : Int) : Int := if sw_l3 Q gt ig 3 0 1000 < 1000 ∧ mk < sw_l3 Q gt ig 3 0 1000 then sw_l3 Q gt ig 3 0 1000 else mk
/-- the parameters: kind, width, panes, lateness -/
abbrev sw_C4 : Type := Int × Int × Int × Int
/-- the events: how many by source; times, keys, values -/
abbrev sw_EV : Type := (Nat → Nat) × (Nat → Int) × (Nat → Nat) × (Nat → Int)
/-- the picture: mark, late, next window; positions, greatest times, idle; panes; sessions by key, sessions; results -/
abbrev sw_MM : Type := (Int × Int × Int) × ((Nat → Nat) × (Nat → Int) × (Nat → Bool)) × (Nat → sw_PP) × ((Nat → Nat) × (Nat → sw_SS)) × sw_RS
def sw_mk (m : sw_MM) : Int := m.1.1
def sw_lc (m : sw_MM) : Int := m.1.2.1
def sw_nw (m : sw_MM) : Int := m.1.2.2
def sw_ps (m : sw_MM) : Nat → Nat := m.2.1.1
def sw_gt (m : sw_MM) : Nat → Int := m.2.1.2.1
def sw_ig (m : sw_MM) : Nat → Bool := m.2.1.2.2
def sw_pn (m : sw_MM) : Nat → sw_PP := m.2.2.1
def sw_sn (m : sw_MM) : Nat → Nat := m.2.2.2.1.1
def sw_ss (m : sw_MM) : Nat → sw_SS := m.2.2.2.1.2
def sw_rc (m : sw_MM) : Nat := m.2.2.2.2.1
def sw_rr (m : sw_MM) : Nat → sw_RR := m.2.2.2.2.2
/-- closing, the mark being mk -/
def sw_cl (c : sw_C4) (mk : Int) (m : sw_MM) : sw_MM :=
  if c.1 < 2 then
    ((mk, sw_lc m, (sw_cw (sw_pn m) c.2.1 c.2.2.1 mk 70 (sw_nw m) (sw_rc m, sw_rr m)).1), (sw_ps m, sw_gt m, sw_ig m), sw_pn m, (sw_sn m, sw_ss m), (sw_cw (sw_pn m) c.2.1 c.2.2.1 mk 70 (sw_nw m) (sw_rc m, sw_rr m)).2)
  else
    ((mk, sw_lc m, sw_nw m), (sw_ps m, sw_gt m, sw_ig m), sw_pn m,
      ((sw_cs c.2.1 mk 130 (sw_sn m, sw_ss m, sw_rc m, sw_rr m)).1, (sw_cs c.2.1 mk 130 (sw_sn m, sw_ss m, sw_rc m, sw_rr m)).2.1),
      (sw_cs c.2.1 mk 130 (sw_sn m, sw_ss m, sw_rc m, sw_rr m)).2.2)
def sw_lk (c : sw_C4) (m : sw_MM) : sw_MM := sw_cl c (sw_nm c.2.2.2 (sw_gt m) (sw_ig m) (sw_mk m)) m
/-- taking an event in -/
def sw_tk (c : sw_C4) (t : Int) (k : Nat) (v : Int) (m : sw_MM) : sw_MM :=
  if c.1 < 2 then
    ((sw_mk m, (sw_tp c.2.1 c.2.2.1 (sw_mk m) (sw_lc m) (sw_pn m) t k v).1, sw_nw m), (sw_ps m, sw_gt m, sw_ig m), (sw_tp c.2.1 c.2.2.1 (sw_mk m) (sw_lc m) (sw_pn m) t k v).2, (sw_sn m, sw_ss m), (sw_rc m, sw_rr m))
  else
    ((sw_mk m, (sw_ts c.2.1 (sw_mk m) (sw_lc m) (sw_sn m) (sw_ss m) t k v).1, sw_nw m), (sw_ps m, sw_gt m, sw_ig m), sw_pn m, (sw_ts c.2.1 (sw_mk m) (sw_lc m) (sw_sn m) (sw_ss m) t k v).2, (sw_rc m, sw_rr m))
/-- readOne, ahead of the taking: the position and the greatest time -/
def sw_r0 (s : Nat) (t : Int) (m : sw_MM) : sw_MM :=
  ((sw_mk m, sw_lc m, sw_nw m), (sw_u (sw_ps m) s (sw_ps m s + 1), sw_u (sw_gt m) s (if sw_gt m s < t then t else sw_gt m s), sw_ig m), sw_pn m, (sw_sn m, sw_ss m), (sw_rc m, sw_rr m))
def sw_r1 (c : sw_C4) (E : sw_EV) (s : Nat) (m : sw_MM) : sw_MM :=
  sw_lk c (sw_tk c (E.2.1 (20 * s + sw_ps m s)) (E.2.2.1 (20 * s + sw_ps m s)) (E.2.2.2 (20 * s + sw_ps m s)) (sw_r0 s (E.2.1 (20 * s + sw_ps m s)) m))
def sw_rd (c : sw_C4) (E : sw_EV) (s : Nat) (m : sw_MM) : sw_MM := if sw_ps m s = E.1 s then m else sw_r1 c E s m
def sw_id (c : sw_C4) (s : Nat) (b : Bool) (m : sw_MM) : sw_MM :=
  sw_lk c ((sw_mk m, sw_lc m, sw_nw m), (sw_ps m, sw_gt m, sw_u (sw_ig m) s b), sw_pn m, (sw_sn m, sw_ss m), (sw_rc m, sw_rr m))
end
section
/-- the session arrays hold the sessions -/
def sw_S (s : Nat → sw_SS) (a13 a14 a15 a16 a17 a18 : Nat → Int32) : Prop :=
  ∀ j, j < 128 → a13 j = sw_i (s j).1 ∧ a14 j = sw_i (s j).2.1 ∧ a15 j = sw_i (s j).2.2.1 ∧ a16 j = sw_i (s j).2.2.2.1 ∧ a17 j = sw_i (s j).2.2.2.2.1 ∧ a18 j = sw_i (s j).2.2.2.2.2
/-- the sessions by key -/
def sw_C (n : Nat → Nat) (a12 : Nat → Int32) : Prop := ∀ k, k < 4 → a12 k = nI (n k)
theorem sw_uself (f : Nat → Int32) (k : Nat) : upd f k (f k) = f := by
  funext j
  unfold upd
  by_cases e : j = k
  · rw [if_pos e, e]
  · rw [if_neg e]
theorem sw_S_u {s : Nat → sw_SS} {a13 a14 a15 a16 a17 a18 : Nat → Int32} (h : sw_S s a13 a14 a15 a16 a17 a18) (q : Nat) (y : sw_SS) {x1 x2 x3 x4 x5 x6 : Int32}
    (e1 : x1 = sw_i y.1) (e2 : x2 = sw_i y.2.1) (e3 : x3 = sw_i y.2.2.1) (e4 : x4 = sw_i y.2.2.2.1) (e5 : x5 = sw_i y.2.2.2.2.1) (e6 : x6 = sw_i y.2.2.2.2.2) :
    sw_S (sw_u s q y) (upd a13 q x1) (upd a14 q x2) (upd a15 q x3) (upd a16 q x4) (upd a17 q x5) (upd a18 q x6) := by
  intro j hj
  by_cases e : j = q
  · subst e
    rw [sw_us, pk_us, pk_us, pk_us, pk_us, pk_us, pk_us]
    exact ⟨e1, e2, e3, e4, e5, e6⟩
  · rw [sw_un e, pk_un e, pk_un e, pk_un e, pk_un e, pk_un e, pk_un e]
    exact h j hj
theorem sw_C_u {n : Nat → Nat} {a12 : Nat → Int32} (h : sw_C n a12) (k m : Nat) : sw_C (sw_u n k m) (upd a12 k (nI m)) := by
  intro j hj
  by_cases e : j = k
  · subst e
    rw [sw_us, pk_us]
  · rw [sw_un e, pk_un e]
    exact h j hj
theorem sw_dn_0 (s : Nat → sw_SS) (x : Nat) : sw_dn s x x = s := by
  funext j
  unfold sw_dn
  rw [if_neg (by omega)]
theorem sw_dn_s (s : Nat → sw_SS) {x e : Nat} (h : x < e) : sw_dn (sw_u s x (s (x + 1))) (x + 1) e = sw_dn s x e := by
  funext j
  unfold sw_dn sw_u
  by_cases e1 : j = x
  · subst e1
    rw [if_neg (by omega), if_pos rfl, if_pos (by omega)]
  · by_cases e2 : x ≤ j ∧ j < e
    · rw [if_pos (by omega), if_neg (by omega), if_pos e2]
    · rw [if_neg (by omega), if_neg e1, if_neg e2]
theorem sw_up_0 (s : Nat → sw_SS) (x : Nat) : sw_up s x x = s := by
  funext j
  unfold sw_up
  rw [if_neg (by omega)]
theorem sw_up_s (s : Nat → sw_SS) {q x : Nat} (h : q ≤ x) : sw_up (sw_u s (x + 1) (s x)) q x = sw_up s q (x + 1) := by
  funext j
  unfold sw_up sw_u
  by_cases e1 : j = x + 1
  · subst e1
    rw [if_neg (by omega), if_pos rfl, if_pos (by omega)]
    rfl
  · by_cases e2 : q < j ∧ j ≤ x + 1
    · rw [if_pos (by omega), if_neg (by omega), if_pos e2]
    · rw [if_neg (by omega), if_neg e1, if_neg e2]
theorem sw_w_copy {kd wd pa la mq lc nw rc km kl kw kr tc ts tl tm : Int32} {a1 a2 a3 a4 a5 a6 a7 a8 a9 a10 a11 a12 a13 a14 a15 a16 a17 a18 a19 a20 a21 a22 a23 a24 : Nat → Int32} {post : St2 → Prop} {s : Nat → sw_SS} {i j : Nat} (hi : i < 128) (hj : j < 128) (hS : sw_S s a13 a14 a15 a16 a17 a18)
    (hp : ∀ b13 b14 b15 b16 b17 b18, sw_S (sw_u s j (s i)) b13 b14 b15 b16 b17 b18 → post (kd, wd, pa, la, mq, lc, nw, rc, km, kl, kw, kr, tc, ts, tl, tm, a1, a2, a3, a4, a5, a6, a7, a8, a9, a10, a11, a12, b13, b14, b15, b16, b17, b18, a19, a20, a21, a22, a23, a24)) :
    wpX_copySession post (kd, wd, pa, la, mq, lc, nw, rc, km, kl, kw, kr, tc, ts, tl, tm, a1, a2, a3, a4, a5, a6, a7, a8, a9, a10, a11, a12, a13, a14, a15, a16, a17, a18, a19, a20, a21, a22, a23, a24) (nI i) (nI j) := by
  have hi' : vp_in (nI i) 128 := pk_in i 128 hi
  have hj' : vp_in (nI j) 128 := pk_in j 128 hj
  obtain ⟨e1, e2, e3, e4, e5, e6⟩ := hS i hi
  unfold wpX_copySession
  dsimp only
  rw [nI_clamp (show i < 2 ^ 31 by omega), nI_clamp (show j < 2 ^ 31 by omega)]
  exact ⟨hi', hj', nm_e ⟨hi', hj', nm_e ⟨hi', hj', nm_e ⟨hi', hj', nm_e ⟨hi', hj', nm_e ⟨hi', hj', nm_e (hp _ _ _ _ _ _ (sw_S_u hS j (s i) e1 e2 e3 e4 e5 e6))⟩⟩⟩⟩⟩⟩
theorem sw_w_rem12 {kd wd pa la mq lc nw rc km kl kw kr tc ts tl tm : Int32} {a1 a2 a3 a4 a5 a6 a7 a8 a9 a10 a11 a12 a19 a20 a21 a22 a23 a24 : Nat → Int32} {post : St2 → Prop} {k n e : Nat} (hk : k < 4) (h12 : a12 k = nI n) (he : 32 * k + n = e) (he2 : e < 128) :
    ∀ (d x : Nat) (s : Nat → sw_SS) (a13 a14 a15 a16 a17 a18 : Nat → Int32), x + d = e → sw_S s a13 a14 a15 a16 a17 a18 →
    (∀ b13 b14 b15 b16 b17 b18, sw_S (sw_dn s x e) b13 b14 b15 b16 b17 b18 → post (kd, wd, pa, la, mq, lc, nw, rc, km, kl, kw, kr, tc, ts, tl, tm, a1, a2, a3, a4, a5, a6, a7, a8, a9, a10, a11, a12, b13, b14, b15, b16, b17, b18, a19, a20, a21, a22, a23, a24)) →
    wX_removeSession_12 post (nI k) (d + 1) (nI x) kd wd pa la mq lc nw rc km kl kw kr tc ts tl tm a1 a2 a3 a4 a5 a6 a7 a8 a9 a10 a11 a12 a13 a14 a15 a16 a17 a18 a19 a20 a21 a22 a23 a24 := by
  intro d
  induction d with
  | zero =>
    intro x s a13 a14 a15 a16 a17 a18 hx hS hp
    unfold wX_removeSession_12
    refine ⟨pk_in k 4 hk, ?_⟩
    rw [nI_clamp (show k < 2 ^ 31 by omega), h12, sw_e32]
    refine pk_le (32 * k + n) x (fun _ => hp _ _ _ _ _ _ ?_) (fun z => absurd z (by omega))
    rw [show x = e by omega, sw_dn_0]
    exact hS
  | succ d ih =>
    intro x s a13 a14 a15 a16 a17 a18 hx hS hp
    unfold wX_removeSession_12
    refine ⟨pk_in k 4 hk, ?_⟩
    rw [nI_clamp (show k < 2 ^ 31 by omega), h12, sw_e32]
    refine pk_le (32 * k + n) x (fun z => absurd z (by omega)) (fun _ => ?_)
    rw [nI_1 x]
    refine sw_w_copy (by omega) (by omega) hS (fun b13 b14 b15 b16 b17 b18 hb => ?_)
    refine nm_e (ih (x + 1) _ _ _ _ _ _ _ (by omega) hb (fun c13 c14 c15 c16 c17 c18 hc => hp _ _ _ _ _ _ ?_))
    rw [sw_dn_s s (by omega)] at hc
    exact hc
theorem sw_w_rem {kd wd pa la mq lc nw rc km kl kw kr tc ts tl tm : Int32} {a1 a2 a3 a4 a5 a6 a7 a8 a9 a10 a11 a12 a13 a14 a15 a16 a17 a18 a19 a20 a21 a22 a23 a24 : Nat → Int32} {post : St2 → Prop} {s : Nat → sw_SS} {k n x : Nat} (hk : k < 4) (h12 : a12 k = nI n) (hn : 0 < n) (hn2 : n ≤ 32) (hx : x ≤ 32 * k + (n - 1)) (hS : sw_S s a13 a14 a15 a16 a17 a18)
    (hp : ∀ b13 b14 b15 b16 b17 b18, sw_S (sw_dn s x (32 * k + (n - 1))) b13 b14 b15 b16 b17 b18 → post (kd, wd, pa, la, mq, lc, nw, rc, km, kl, kw, kr, tc, ts, tl, tm, a1, a2, a3, a4, a5, a6, a7, a8, a9, a10, a11, upd a12 k (nI (n - 1)), b13, b14, b15, b16, b17, b18, a19, a20, a21, a22, a23, a24)) :
    wpX_removeSession post (kd, wd, pa, la, mq, lc, nw, rc, km, kl, kw, kr, tc, ts, tl, tm, a1, a2, a3, a4, a5, a6, a7, a8, a9, a10, a11, a12, a13, a14, a15, a16, a17, a18, a19, a20, a21, a22, a23, a24) (nI k) (nI x) := by
  unfold wpX_removeSession
  dsimp only
  rw [nI_clamp (show k < 2 ^ 31 by omega), h12]
  have e1 : nI n - 1 = nI (n - 1) := by
    have := nI_pred (n - 1)
    rw [show n - 1 + 1 = n by omega] at this
    exact this
  rw [e1]
  exact ⟨pk_in k 4 hk, pk_in k 4 hk, nm_e ⟨32 * k + (n - 1) - x + 1, sw_w_rem12 hk pk_us rfl (by omega) _ _ _ _ _ _ _ _ _ (by omega) hS hp⟩⟩
theorem sw_w_ins13 {kd wd pa la mq lc nw rc km kl kw kr tc ts tl tm : Int32} {a1 a2 a3 a4 a5 a6 a7 a8 a9 a10 a11 a12 a19 a20 a21 a22 a23 a24 : Nat → Int32} {post : St2 → Prop} {k n q : Nat} {t v : Int} (hk : k < 4) (h12 : a12 k = nI n) :
    ∀ (d : Nat) (s : Nat → sw_SS) (a13 a14 a15 a16 a17 a18 : Nat → Int32), q + d < 128 → sw_S s a13 a14 a15 a16 a17 a18 →
    (∀ b13 b14 b15 b16 b17 b18, sw_S (sw_u (sw_up s q (q + d)) q (t, t, 1, v, v, v)) b13 b14 b15 b16 b17 b18 → post (kd, wd, pa, la, mq, lc, nw, rc, km, kl, kw, kr, tc, ts, tl, tm, a1, a2, a3, a4, a5, a6, a7, a8, a9, a10, a11, upd a12 k (nI (n + 1)), b13, b14, b15, b16, b17, b18, a19, a20, a21, a22, a23, a24)) →
    wX_insertSession_13 post (nI k) (nI q) (sw_i t) (sw_i v) (d + 1) (nI (q + d)) kd wd pa la mq lc nw rc km kl kw kr tc ts tl tm a1 a2 a3 a4 a5 a6 a7 a8 a9 a10 a11 a12 a13 a14 a15 a16 a17 a18 a19 a20 a21 a22 a23 a24 := by
  intro d
  induction d with
  | zero =>
    intro s a13 a14 a15 a16 a17 a18 hx hS hp
    unfold wX_insertSession_13
    rw [nI_clamp (show k < 2 ^ 31 by omega), nI_clamp (show q < 2 ^ 31 by omega), h12, nI_1]
    have hq' : vp_in (nI q) 128 := pk_in q 128 (by omega)
    refine pk_le (q + 0) q (fun _ => ⟨pk_in k 4 hk, pk_in k 4 hk, nm_e ⟨hq', nm_e ⟨hq', nm_e ⟨hq', nm_e ⟨hq', nm_e ⟨hq', nm_e ⟨hq', nm_e (hp _ _ _ _ _ _ ?_)⟩⟩⟩⟩⟩⟩⟩) (fun z => absurd z (by omega))
    rw [Nat.add_zero, sw_up_0]
    exact sw_S_u hS q (t, t, 1, v, v, v) rfl rfl rfl rfl rfl rfl
  | succ d ih =>
    intro s a13 a14 a15 a16 a17 a18 hx hS hp
    unfold wX_insertSession_13
    refine pk_le (q + (d + 1)) q (fun z => absurd z (by omega)) (fun _ => ?_)
    rw [← Nat.add_assoc, nI_pred, pk_m1]
    refine sw_w_copy (by omega) (by omega) hS (fun b13 b14 b15 b16 b17 b18 hb => ?_)
    refine nm_e (ih _ _ _ _ _ _ _ (by omega) hb (fun c13 c14 c15 c16 c17 c18 hc => hp _ _ _ _ _ _ ?_))
    rw [sw_up_s s (by omega)] at hc
    exact hc
theorem sw_w_ins {kd wd pa la mq lc nw rc km kl kw kr tc ts tl tm : Int32} {a1 a2 a3 a4 a5 a6 a7 a8 a9 a10 a11 a12 a13 a14 a15 a16 a17 a18 a19 a20 a21 a22 a23 a24 : Nat → Int32} {post : St2 → Prop} {s : Nat → sw_SS} {k n q : Nat} {t v : Int} (hk : k < 4) (h12 : a12 k = nI n) (hn : n < 32) (hq1 : 32 * k ≤ q) (hq : q ≤ 32 * k + n) (hS : sw_S s a13 a14 a15 a16 a17 a18)
    (hp : ∀ b13 b14 b15 b16 b17 b18, sw_S (sw_u (sw_up s q (32 * k + n)) q (t, t, 1, v, v, v)) b13 b14 b15 b16 b17 b18 → post (kd, wd, pa, la, mq, lc, nw, rc, km, kl, kw, kr, tc, ts, tl, tm, a1, a2, a3, a4, a5, a6, a7, a8, a9, a10, a11, upd a12 k (nI (n + 1)), b13, b14, b15, b16, b17, b18, a19, a20, a21, a22, a23, a24)) :
    wpX_insertSession post (kd, wd, pa, la, mq, lc, nw, rc, km, kl, kw, kr, tc, ts, tl, tm, a1, a2, a3, a4, a5, a6, a7, a8, a9, a10, a11, a12, a13, a14, a15, a16, a17, a18, a19, a20, a21, a22, a23, a24) (nI k) (nI q) (sw_i t) (sw_i v) := by
  unfold wpX_insertSession
  dsimp only
  rw [nI_clamp (show k < 2 ^ 31 by omega), h12, sw_e32]
  obtain ⟨d, hd⟩ : ∃ d, 32 * k + n = q + d := ⟨32 * k + n - q, by omega⟩
  rw [hd] at hp ⊢
  exact ⟨pk_in k 4 hk, nm_e ⟨d + 1, sw_w_ins13 hk h12 d s _ _ _ _ _ _ (by omega) hS hp⟩⟩
end
section
theorem sw_uu {α : Type} (f : Nat → α) (k : Nat) (x y : α) : sw_u (sw_u f k x) k y = sw_u f k y := by
  funext j
  unfold sw_u
  by_cases e : j = k
  · rw [if_pos e, if_pos e]
  · rw [if_neg e, if_neg e, if_neg e]
theorem sw_w_j117 {kd wd pa la mq lc nw rc km kl kw kr tc ts tl tm : Int32} {a1 a2 a3 a4 a5 a6 a7 a8 a9 a10 a11 a12 a13 a14 a15 a16 a17 a18 a19 a20 a21 a22 a23 a24 : Nat → Int32} {post : St2 → Prop} {s : Nat → sw_SS} {k n q : Nat} {z0 : Int32} (hk : k < 4) (h12 : a12 k = nI n) (hn2 : n ≤ 32) (hq1 : 32 * k ≤ q) (hq : q + 1 < 32 * k + n)
    (hS : sw_S s a13 a14 a15 a16 a17 (upd a18 q z0))
    (hp : ∀ b13 b14 b15 b16 b17 b18, sw_S (sw_dn s (q + 1) (32 * k + (n - 1))) b13 b14 b15 b16 b17 b18 → post (kd, wd, pa, la, mq, lc, nw, rc, km, kl, kw, kr, tc, ts, tl, tm, a1, a2, a3, a4, a5, a6, a7, a8, a9, a10, a11, upd a12 k (nI (n - 1)), b13, b14, b15, b16, b17, b18, a19, a20, a21, a22, a23, a24)) :
    wX_joinNext_117 post (nI k) (nI (q + 1)) z0 (nI q) kd wd pa la mq lc nw rc km kl kw kr tc ts tl tm a1 a2 a3 a4 a5 a6 a7 a8 a9 a10 a11 a12 a13 a14 a15 a16 a17 a18 a19 a20 a21 a22 a23 a24 := by
  unfold wX_joinNext_117
  rw [nI_clamp (show q < 2 ^ 31 by omega)]
  refine ⟨pk_in q 128 (by omega), nm_e ?_⟩
  exact sw_w_rem hk h12 (by omega) hn2 (by omega) hS (fun b13 b14 b15 b16 b17 b18 hb => hp _ _ _ _ _ _ hb)
theorem sw_w_join {kd wd pa la mq lc nw rc km kl kw kr tc ts tl tm : Int32} {a1 a2 a3 a4 a5 a6 a7 a8 a9 a10 a11 a12 a13 a14 a15 a16 a17 a18 a19 a20 a21 a22 a23 a24 : Nat → Int32} {post : St2 → Prop} {s : Nat → sw_SS} {k n q : Nat} (hk : k < 4) (h12 : a12 k = nI n) (hn2 : n ≤ 32) (hq1 : 32 * k ≤ q) (hq : q + 1 < 32 * k + n) (hS : sw_S s a13 a14 a15 a16 a17 a18)
    (b1 : -1000 ≤ (s q).2.2.2.2.1 ∧ (s q).2.2.2.2.1 ≤ 1000 ∧ -1000 ≤ (s q).2.2.2.2.2 ∧ (s q).2.2.2.2.2 ≤ 1000)
    (b2 : -1000 ≤ (s (q + 1)).2.2.2.2.1 ∧ (s (q + 1)).2.2.2.2.1 ≤ 1000 ∧ -1000 ≤ (s (q + 1)).2.2.2.2.2 ∧ (s (q + 1)).2.2.2.2.2 ≤ 1000)
    (hp : ∀ b13 b14 b15 b16 b17 b18, sw_S (sw_dn (sw_u s q (sw_jn (s q) (s (q + 1)))) (q + 1) (32 * k + (n - 1))) b13 b14 b15 b16 b17 b18 → post (kd, wd, pa, la, mq, lc, nw, rc, km, kl, kw, kr, tc, ts, tl, tm, a1, a2, a3, a4, a5, a6, a7, a8, a9, a10, a11, upd a12 k (nI (n - 1)), b13, b14, b15, b16, b17, b18, a19, a20, a21, a22, a23, a24)) :
    wpX_joinNext post (kd, wd, pa, la, mq, lc, nw, rc, km, kl, kw, kr, tc, ts, tl, tm, a1, a2, a3, a4, a5, a6, a7, a8, a9, a10, a11, a12, a13, a14, a15, a16, a17, a18, a19, a20, a21, a22, a23, a24) (nI k) (nI q) := by
  have h0 : vp_in (nI q) 128 := pk_in q 128 (by omega)
  have h1 : vp_in (nI (q + 1)) 128 := pk_in (q + 1) 128 (by omega)
  have c0 : (nI q).toNatClampNeg = q := nI_clamp (by omega)
  have c1 : (nI (q + 1)).toNatClampNeg = q + 1 := nI_clamp (by omega)
  obtain ⟨d1, d2, d3, d4, d5, d6⟩ := hS q (by omega)
  obtain ⟨f1, f2, f3, f4, f5, f6⟩ := hS (q + 1) (by omega)
  have g3 : a15 q + a15 (q + 1) = sw_i (sw_jn (s q) (s (q + 1))).2.2.1 := by rw [d3, f3, sw_add]; rfl
  have g4 : a16 q + a16 (q + 1) = sw_i (sw_jn (s q) (s (q + 1))).2.2.2.1 := by rw [d4, f4, sw_add]; rfl
  have fin : ∀ z5 z6 : Int32, z5 = sw_i (sw_jn (s q) (s (q + 1))).2.2.2.2.1 → z6 = sw_i (sw_jn (s q) (s (q + 1))).2.2.2.2.2 →
      sw_S (sw_u s q (sw_jn (s q) (s (q + 1)))) a13 (upd a14 q (a14 (q + 1))) (upd a15 q (a15 q + a15 (q + 1))) (upd a16 q (a16 q + a16 (q + 1))) (upd a17 q z5) (upd a18 q z6) := by
    intro z5 z6 e5 e6
    have := sw_S_u hS q (sw_jn (s q) (s (q + 1))) (x1 := a13 q) d1 f2 g3 g4 e5 e6
    rw [sw_uself] at this
    exact this
  have k5 : ∀ z5 : Int32, z5 = sw_i (sw_jn (s q) (s (q + 1))).2.2.2.2.1 →
      wX_joinNext_81 post (nI k) (nI q) (nI (q + 1)) z5 (nI q) kd wd pa la mq lc nw rc km kl kw kr tc ts tl tm a1 a2 a3 a4 a5 a6 a7 a8 a9 a10 a11 a12 a13 (upd a14 q (a14 (q + 1))) (upd a15 q (a15 q + a15 (q + 1))) (upd a16 q (a16 q + a16 (q + 1))) a17 a18 a19 a20 a21 a22 a23 a24 := by
    intro z5 e5
    unfold wX_joinNext_81
    rw [c0, c1]
    refine ⟨h0, nm_e ⟨h1, h0, ?_⟩⟩
    refine sw_ble (s (q + 1)).2.2.2.2.2 (s q).2.2.2.2.2 f6 d6 (fun z => ⟨h0, ?_⟩) (fun z => ⟨h1, ?_⟩)
    · refine sw_w_j117 hk h12 hn2 hq1 hq (fin z5 (a18 q) e5 ?_) hp
      show a18 q = sw_i (if (s q).2.2.2.2.2 < (s (q + 1)).2.2.2.2.2 then (s (q + 1)).2.2.2.2.2 else (s q).2.2.2.2.2)
      rw [if_neg (by omega), d6]
    · refine sw_w_j117 hk h12 hn2 hq1 hq (fin z5 (a18 (q + 1)) e5 ?_) hp
      show a18 (q + 1) = sw_i (if (s q).2.2.2.2.2 < (s (q + 1)).2.2.2.2.2 then (s (q + 1)).2.2.2.2.2 else (s q).2.2.2.2.2)
      rw [if_pos z, f6]
  unfold wpX_joinNext
  dsimp only
  rw [nI_1 q]
  refine nm_e ?_
  rw [c0, c1]
  refine ⟨h1, h0, nm_e ⟨h0, h1, h0, nm_e ⟨h0, h1, h0, nm_e ⟨h1, h0, ?_⟩⟩⟩⟩
  refine sw_ble (s q).2.2.2.2.1 (s (q + 1)).2.2.2.2.1 d5 f5 (fun z => ⟨h0, k5 _ ?_⟩) (fun z => ⟨h1, k5 _ ?_⟩)
  · show a17 q = sw_i (if (s (q + 1)).2.2.2.2.1 < (s q).2.2.2.2.1 then (s (q + 1)).2.2.2.2.1 else (s q).2.2.2.2.1)
    rw [if_neg (by omega), d5]
  · show a17 (q + 1) = sw_i (if (s (q + 1)).2.2.2.2.1 < (s q).2.2.2.2.1 then (s (q + 1)).2.2.2.2.1 else (s q).2.2.2.2.1)
    rw [if_pos z, f5]
/-- the bounds of a session's numbers -/
def sw_sb (x : sw_SS) : Prop := 0 ≤ x.1 ∧ x.1 ≤ 63 ∧ 0 ≤ x.2.1 ∧ x.2.1 ≤ 63 ∧ -50 ≤ x.2.2.2.2.1 ∧ x.2.2.2.2.1 ≤ 50 ∧ -50 ≤ x.2.2.2.2.2 ∧ x.2.2.2.2.2 ≤ 50
theorem sw_w_t235 {kd pa la mq lc nw rc km kl kw kr tc ts tl tm : Int32} {a1 a2 a3 a4 a5 a6 a7 a8 a9 a10 a11 a12 a13 a14 a15 a16 a17 a18 a19 a20 a21 a22 a23 a24 : Nat → Int32} {post : St2 → Prop} {z0 : Int32} {s : Nat → sw_SS} {k n q : Nat} {W t v : Int} (hk : k < 4) (h12 : a12 k = nI n) (hn2 : n ≤ 32) (hq1 : 32 * k ≤ q) (hq : q < 32 * k + n) (hW : 1 ≤ W ∧ W ≤ 8) (ht : 0 ≤ t ∧ t ≤ 63) (hv : -50 ≤ v ∧ v ≤ 50) (hb1 : sw_sb (s q)) (hb2 : q + 1 < 32 * k + n → sw_sb (s (q + 1)))
    (hS : sw_S (sw_u s q (sw_mg (s q) t v)) a13 a14 (upd a15 q (a15 q + 1)) (upd a16 q (a16 q + sw_i v)) a17 (upd a18 q z0)) (hpA : ¬ (q + 1 < 32 * k + n ∧ (s (q + 1)).1 - W ≤ t) → ∀ b13 b14 b15 b16 b17 b18, sw_S (sw_u s q (sw_mg (s q) t v)) b13 b14 b15 b16 b17 b18 → post (kd, sw_i W, pa, la, mq, lc, nw, rc, km, kl, kw, kr, tc, ts, tl, tm, a1, a2, a3, a4, a5, a6, a7, a8, a9, a10, a11, a12, b13, b14, b15, b16, b17, b18, a19, a20, a21, a22, a23, a24)) (hpB : (q + 1 < 32 * k + n ∧ (s (q + 1)).1 - W ≤ t) → ∀ b13 b14 b15 b16 b17 b18, sw_S (sw_dn (sw_u s q (sw_jn (sw_mg (s q) t v) (s (q + 1)))) (q + 1) (32 * k + (n - 1))) b13 b14 b15 b16 b17 b18 → post (kd, sw_i W, pa, la, mq, lc, nw, rc, km, kl, kw, kr, tc, ts, tl, tm, a1, a2, a3, a4, a5, a6, a7, a8, a9, a10, a11, upd a12 k (nI (n - 1)), b13, b14, b15, b16, b17, b18, a19, a20, a21, a22, a23, a24)) :
    wX_takeIntoSession_235 post (sw_i t) (nI k) (sw_i v) (nI q) (nI (32 * k + n)) z0 (nI q) kd (sw_i W) pa la mq lc nw rc km kl kw kr tc ts tl tm a1 a2 a3 a4 a5 a6 a7 a8 a9 a10 a11 a12 a13 a14 a15 a16 a17 a18 a19 a20 a21 a22 a23 a24 := by
  have h0 : vp_in (nI q) 128 := pk_in q 128 (by omega)
  unfold wX_takeIntoSession_235
  rw [nI_clamp (show q < 2 ^ 31 by omega), nI_1, nI_clamp (show q + 1 < 2 ^ 31 by omega)]
  refine ⟨h0, nm_e ⟨h0, h0, nm_e ⟨h0, h0, nm_e ?_⟩⟩⟩
  refine pk_le (32 * k + n) (q + 1) (fun z => hpA (fun z2 => absurd z2.1 (by omega)) _ _ _ _ _ _ hS) (fun z => ⟨pk_in (q + 1) 128 (by omega), ?_⟩)
  have e1 := (hS (q + 1) (by omega)).1
  rw [sw_un (by omega)] at e1
  have hb3 := hb2 z
  unfold sw_sb at hb3 hb1
  rw [e1, sw_sub]
  refine sw_blt t ((s (q + 1)).1 - W) rfl rfl (fun z2 => hpA (fun z3 => absurd z3.2 (by omega)) _ _ _ _ _ _ hS) (fun z2 => ?_)
  refine sw_w_join hk h12 hn2 hq1 z hS ?_ ?_ (fun b13 b14 b15 b16 b17 b18 hb => hpB ⟨z, z2⟩ _ _ _ _ _ _ ?_)
  · rw [sw_us]
    unfold sw_mg
    dsimp only
    refine ⟨?_, ?_, ?_, ?_⟩ <;> split <;> omega
  · rw [sw_un (by omega)]
    omega
  · rw [sw_us, sw_un (show q + 1 ≠ q by omega), sw_uu] at hb
    exact hb
theorem sw_w_t206 {kd pa la mq lc nw rc km kl kw kr tc ts tl tm : Int32} {a1 a2 a3 a4 a5 a6 a7 a8 a9 a10 a11 a12 a13 a14 a15 a16 a17 a18 a19 a20 a21 a22 a23 a24 : Nat → Int32} {post : St2 → Prop} {z0 x1 x2 : Int32} {s : Nat → sw_SS} {k n q : Nat} {W t v : Int} (hk : k < 4) (h12 : a12 k = nI n) (hn2 : n ≤ 32) (hq1 : 32 * k ≤ q) (hq : q < 32 * k + n) (hW : 1 ≤ W ∧ W ≤ 8) (ht : 0 ≤ t ∧ t ≤ 63) (hv : -50 ≤ v ∧ v ≤ 50) (hb1 : sw_sb (s q)) (hb2 : q + 1 < 32 * k + n → sw_sb (s (q + 1)))
    (hS : sw_S s a13 a14 a15 a16 a17 a18) (e1 : x1 = sw_i (sw_mg (s q) t v).1) (e2 : x2 = sw_i (sw_mg (s q) t v).2.1) (e5 : z0 = sw_i (sw_mg (s q) t v).2.2.2.2.1) (hpA : ¬ (q + 1 < 32 * k + n ∧ (s (q + 1)).1 - W ≤ t) → ∀ b13 b14 b15 b16 b17 b18, sw_S (sw_u s q (sw_mg (s q) t v)) b13 b14 b15 b16 b17 b18 → post (kd, sw_i W, pa, la, mq, lc, nw, rc, km, kl, kw, kr, tc, ts, tl, tm, a1, a2, a3, a4, a5, a6, a7, a8, a9, a10, a11, a12, b13, b14, b15, b16, b17, b18, a19, a20, a21, a22, a23, a24)) (hpB : (q + 1 < 32 * k + n ∧ (s (q + 1)).1 - W ≤ t) → ∀ b13 b14 b15 b16 b17 b18, sw_S (sw_dn (sw_u s q (sw_jn (sw_mg (s q) t v) (s (q + 1)))) (q + 1) (32 * k + (n - 1))) b13 b14 b15 b16 b17 b18 → post (kd, sw_i W, pa, la, mq, lc, nw, rc, km, kl, kw, kr, tc, ts, tl, tm, a1, a2, a3, a4, a5, a6, a7, a8, a9, a10, a11, upd a12 k (nI (n - 1)), b13, b14, b15, b16, b17, b18, a19, a20, a21, a22, a23, a24)) :
    wX_takeIntoSession_206 post (sw_i t) (nI k) (sw_i v) (nI q) (nI (32 * k + n)) z0 (nI q) kd (sw_i W) pa la mq lc nw rc km kl kw kr tc ts tl tm a1 a2 a3 a4 a5 a6 a7 a8 a9 a10 a11 a12 (upd a13 q x1) (upd a14 q x2) a15 a16 a17 a18 a19 a20 a21 a22 a23 a24 := by
  have h0 : vp_in (nI q) 128 := pk_in q 128 (by omega)
  obtain ⟨d1, d2, d3, d4, d5, d6⟩ := hS q (by omega)
  unfold wX_takeIntoSession_206
  rw [nI_clamp (show q < 2 ^ 31 by omega)]
  have hb := hb1
  unfold sw_sb at hb
  have fin : ∀ z6, z6 = sw_i (sw_mg (s q) t v).2.2.2.2.2 → sw_S (sw_u s q (sw_mg (s q) t v)) (upd a13 q x1) (upd a14 q x2) (upd a15 q (a15 q + 1)) (upd a16 q (a16 q + sw_i v)) (upd a17 q z0) (upd a18 q z6) :=
    fun z6 e6 => sw_S_u hS q _ e1 e2 (by rw [d3, sw_p1]; rfl) (by rw [d4, sw_add]; rfl) e5 e6
  refine ⟨h0, nm_e ⟨h0, ?_⟩⟩
  refine sw_ble v (s q).2.2.2.2.2 rfl d6 (fun z => ⟨h0, ?_⟩) (fun z => ?_)
  · refine sw_w_t235 hk h12 hn2 hq1 hq hW ht hv hb1 hb2 (fin _ ?_) hpA hpB
    show a18 q = sw_i (if (s q).2.2.2.2.2 < v then v else (s q).2.2.2.2.2)
    rw [if_neg (by omega), d6]
  · refine sw_w_t235 hk h12 hn2 hq1 hq hW ht hv hb1 hb2 (fin _ ?_) hpA hpB
    show sw_i v = sw_i (if (s q).2.2.2.2.2 < v then v else (s q).2.2.2.2.2)
    rw [if_pos z]
theorem sw_w_t177 {kd pa la mq lc nw rc km kl kw kr tc ts tl tm : Int32} {a1 a2 a3 a4 a5 a6 a7 a8 a9 a10 a11 a12 a13 a14 a15 a16 a17 a18 a19 a20 a21 a22 a23 a24 : Nat → Int32} {post : St2 → Prop} {z0 x1 : Int32} {s : Nat → sw_SS} {k n q : Nat} {W t v : Int} (hk : k < 4) (h12 : a12 k = nI n) (hn2 : n ≤ 32) (hq1 : 32 * k ≤ q) (hq : q < 32 * k + n) (hW : 1 ≤ W ∧ W ≤ 8) (ht : 0 ≤ t ∧ t ≤ 63) (hv : -50 ≤ v ∧ v ≤ 50) (hb1 : sw_sb (s q)) (hb2 : q + 1 < 32 * k + n → sw_sb (s (q + 1)))
    (hS : sw_S s a13 a14 a15 a16 a17 a18) (e1 : x1 = sw_i (sw_mg (s q) t v).1) (e2 : z0 = sw_i (sw_mg (s q) t v).2.1) (hpA : ¬ (q + 1 < 32 * k + n ∧ (s (q + 1)).1 - W ≤ t) → ∀ b13 b14 b15 b16 b17 b18, sw_S (sw_u s q (sw_mg (s q) t v)) b13 b14 b15 b16 b17 b18 → post (kd, sw_i W, pa, la, mq, lc, nw, rc, km, kl, kw, kr, tc, ts, tl, tm, a1, a2, a3, a4, a5, a6, a7, a8, a9, a10, a11, a12, b13, b14, b15, b16, b17, b18, a19, a20, a21, a22, a23, a24)) (hpB : (q + 1 < 32 * k + n ∧ (s (q + 1)).1 - W ≤ t) → ∀ b13 b14 b15 b16 b17 b18, sw_S (sw_dn (sw_u s q (sw_jn (sw_mg (s q) t v) (s (q + 1)))) (q + 1) (32 * k + (n - 1))) b13 b14 b15 b16 b17 b18 → post (kd, sw_i W, pa, la, mq, lc, nw, rc, km, kl, kw, kr, tc, ts, tl, tm, a1, a2, a3, a4, a5, a6, a7, a8, a9, a10, a11, upd a12 k (nI (n - 1)), b13, b14, b15, b16, b17, b18, a19, a20, a21, a22, a23, a24)) :
    wX_takeIntoSession_177 post (sw_i t) (nI k) (sw_i v) (nI q) (nI (32 * k + n)) z0 (nI q) kd (sw_i W) pa la mq lc nw rc km kl kw kr tc ts tl tm a1 a2 a3 a4 a5 a6 a7 a8 a9 a10 a11 a12 (upd a13 q x1) a14 a15 a16 a17 a18 a19 a20 a21 a22 a23 a24 := by
  have h0 : vp_in (nI q) 128 := pk_in q 128 (by omega)
  obtain ⟨d1, d2, d3, d4, d5, d6⟩ := hS q (by omega)
  unfold wX_takeIntoSession_177
  rw [nI_clamp (show q < 2 ^ 31 by omega)]
  have hb := hb1
  unfold sw_sb at hb
  refine ⟨h0, nm_e ⟨h0, ?_⟩⟩
  refine sw_ble (s q).2.2.2.2.1 v d5 rfl (fun z => ⟨h0, ?_⟩) (fun z => ?_)
  · refine sw_w_t206 hk h12 hn2 hq1 hq hW ht hv hb1 hb2 hS e1 e2 ?_ hpA hpB
    show a17 q = sw_i (if v < (s q).2.2.2.2.1 then v else (s q).2.2.2.2.1)
    rw [if_neg (by omega), d5]
  · refine sw_w_t206 hk h12 hn2 hq1 hq hW ht hv hb1 hb2 hS e1 e2 ?_ hpA hpB
    show sw_i v = sw_i (if v < (s q).2.2.2.2.1 then v else (s q).2.2.2.2.1)
    rw [if_pos z]
theorem sw_w_t148 {kd pa la mq lc nw rc km kl kw kr tc ts tl tm : Int32} {a1 a2 a3 a4 a5 a6 a7 a8 a9 a10 a11 a12 a13 a14 a15 a16 a17 a18 a19 a20 a21 a22 a23 a24 : Nat → Int32} {post : St2 → Prop} {z0 : Int32} {s : Nat → sw_SS} {k n q : Nat} {W t v : Int} (hk : k < 4) (h12 : a12 k = nI n) (hn2 : n ≤ 32) (hq1 : 32 * k ≤ q) (hq : q < 32 * k + n) (hW : 1 ≤ W ∧ W ≤ 8) (ht : 0 ≤ t ∧ t ≤ 63) (hv : -50 ≤ v ∧ v ≤ 50) (hb1 : sw_sb (s q)) (hb2 : q + 1 < 32 * k + n → sw_sb (s (q + 1)))
    (hS : sw_S s a13 a14 a15 a16 a17 a18) (e1 : z0 = sw_i (sw_mg (s q) t v).1) (hpA : ¬ (q + 1 < 32 * k + n ∧ (s (q + 1)).1 - W ≤ t) → ∀ b13 b14 b15 b16 b17 b18, sw_S (sw_u s q (sw_mg (s q) t v)) b13 b14 b15 b16 b17 b18 → post (kd, sw_i W, pa, la, mq, lc, nw, rc, km, kl, kw, kr, tc, ts, tl, tm, a1, a2, a3, a4, a5, a6, a7, a8, a9, a10, a11, a12, b13, b14, b15, b16, b17, b18, a19, a20, a21, a22, a23, a24)) (hpB : (q + 1 < 32 * k + n ∧ (s (q + 1)).1 - W ≤ t) → ∀ b13 b14 b15 b16 b17 b18, sw_S (sw_dn (sw_u s q (sw_jn (sw_mg (s q) t v) (s (q + 1)))) (q + 1) (32 * k + (n - 1))) b13 b14 b15 b16 b17 b18 → post (kd, sw_i W, pa, la, mq, lc, nw, rc, km, kl, kw, kr, tc, ts, tl, tm, a1, a2, a3, a4, a5, a6, a7, a8, a9, a10, a11, upd a12 k (nI (n - 1)), b13, b14, b15, b16, b17, b18, a19, a20, a21, a22, a23, a24)) :
    wX_takeIntoSession_148 post (sw_i t) (nI k) (sw_i v) (nI q) (nI (32 * k + n)) z0 (nI q) kd (sw_i W) pa la mq lc nw rc km kl kw kr tc ts tl tm a1 a2 a3 a4 a5 a6 a7 a8 a9 a10 a11 a12 a13 a14 a15 a16 a17 a18 a19 a20 a21 a22 a23 a24 := by
  have h0 : vp_in (nI q) 128 := pk_in q 128 (by omega)
  obtain ⟨d1, d2, d3, d4, d5, d6⟩ := hS q (by omega)
  unfold wX_takeIntoSession_148
  rw [nI_clamp (show q < 2 ^ 31 by omega)]
  have hb := hb1
  unfold sw_sb at hb
  refine ⟨h0, nm_e ⟨h0, ?_⟩⟩
  refine sw_ble t (s q).2.1 rfl d2 (fun z => ⟨h0, ?_⟩) (fun z => ?_)
  · refine sw_w_t177 hk h12 hn2 hq1 hq hW ht hv hb1 hb2 hS e1 ?_ hpA hpB
    show a14 q = sw_i (if (s q).2.1 < t then t else (s q).2.1)
    rw [if_neg (by omega), d2]
  · refine sw_w_t177 hk h12 hn2 hq1 hq hW ht hv hb1 hb2 hS e1 ?_ hpA hpB
    show sw_i t = sw_i (if (s q).2.1 < t then t else (s q).2.1)
    rw [if_pos z]
theorem sw_w_t105 {kd pa la mq lc nw rc km kl kw kr tc ts tl tm : Int32} {a1 a2 a3 a4 a5 a6 a7 a8 a9 a10 a11 a12 a13 a14 a15 a16 a17 a18 a19 a20 a21 a22 a23 a24 : Nat → Int32} {post : St2 → Prop} {s : Nat → sw_SS} {k n q : Nat} {W t v : Int} (hk : k < 4) (h12 : a12 k = nI n) (hn2 : n ≤ 32) (hq1 : 32 * k ≤ q) (hq : q < 32 * k + n) (hW : 1 ≤ W ∧ W ≤ 8) (ht : 0 ≤ t ∧ t ≤ 63) (hv : -50 ≤ v ∧ v ≤ 50) (hb1 : sw_sb (s q)) (hb2 : q + 1 < 32 * k + n → sw_sb (s (q + 1)))
    (hS : sw_S s a13 a14 a15 a16 a17 a18) (hpA : ¬ (q + 1 < 32 * k + n ∧ (s (q + 1)).1 - W ≤ t) → ∀ b13 b14 b15 b16 b17 b18, sw_S (sw_u s q (sw_mg (s q) t v)) b13 b14 b15 b16 b17 b18 → post (kd, sw_i W, pa, la, mq, lc, nw, rc, km, kl, kw, kr, tc, ts, tl, tm, a1, a2, a3, a4, a5, a6, a7, a8, a9, a10, a11, a12, b13, b14, b15, b16, b17, b18, a19, a20, a21, a22, a23, a24)) (hpB : (q + 1 < 32 * k + n ∧ (s (q + 1)).1 - W ≤ t) → ∀ b13 b14 b15 b16 b17 b18, sw_S (sw_dn (sw_u s q (sw_jn (sw_mg (s q) t v) (s (q + 1)))) (q + 1) (32 * k + (n - 1))) b13 b14 b15 b16 b17 b18 → post (kd, sw_i W, pa, la, mq, lc, nw, rc, km, kl, kw, kr, tc, ts, tl, tm, a1, a2, a3, a4, a5, a6, a7, a8, a9, a10, a11, upd a12 k (nI (n - 1)), b13, b14, b15, b16, b17, b18, a19, a20, a21, a22, a23, a24)) :
    wX_takeIntoSession_105 post (sw_i t) (nI k) (sw_i v) (nI q) (nI (32 * k + n)) 1 kd (sw_i W) pa la mq lc nw rc km kl kw kr tc ts tl tm a1 a2 a3 a4 a5 a6 a7 a8 a9 a10 a11 a12 a13 a14 a15 a16 a17 a18 a19 a20 a21 a22 a23 a24 := by
  have h0 : vp_in (nI q) 128 := pk_in q 128 (by omega)
  obtain ⟨d1, d2, d3, d4, d5, d6⟩ := hS q (by omega)
  unfold wX_takeIntoSession_105
  rw [nI_clamp (show q < 2 ^ 31 by omega)]
  have hb := hb1
  unfold sw_sb at hb
  refine br_f (by decide) ⟨h0, ?_⟩
  refine sw_ble (s q).1 t d1 rfl (fun z => ⟨h0, ?_⟩) (fun z => ?_)
  · refine sw_w_t148 hk h12 hn2 hq1 hq hW ht hv hb1 hb2 hS ?_ hpA hpB
    show a13 q = sw_i (if t < (s q).1 then t else (s q).1)
    rw [if_neg (by omega), d1]
  · refine sw_w_t148 hk h12 hn2 hq1 hq hW ht hv hb1 hb2 hS ?_ hpA hpB
    show sw_i t = sw_i (if t < (s q).1 then t else (s q).1)
    rw [if_pos z]
theorem sw_sc_in (ss : Nat → sw_SS) (W t : Int) : ∀ n q, q ≤ sw_sc ss W t n q ∧ sw_sc ss W t n q ≤ q + n
  | 0, q => ⟨Nat.le_refl q, Nat.le_refl q⟩
  | n + 1, q => by
    unfold sw_sc
    split
    · have := sw_sc_in ss W t n (q + 1)
      omega
    · omega
theorem sw_w_t46 {kd pa la nw rc km kl kw kr tc ts tl tm : Int32} {a1 a2 a3 a4 a5 a6 a7 a8 a9 a10 a11 a12 a13 a14 a15 a16 a17 a18 a19 a20 a21 a22 a23 a24 : Nat → Int32} {post : St2 → Prop} {sn : Nat → Nat} {s : Nat → sw_SS} {k q : Nat} {W m l t v : Int} (hk : k < 4) (hC : sw_C sn a12) (hn2 : sn k ≤ 32) (hq1 : 32 * k ≤ q) (hq2 : q ≤ 32 * k + sn k)
    (hW : 1 ≤ W ∧ W ≤ 8) (ht : 0 ≤ t ∧ t ≤ 63) (hv : -50 ≤ v ∧ v ≤ 50) (hm : -1000 ≤ m ∧ m ≤ 63)
    (hb : ∀ j, 32 * k ≤ j → j < 32 * k + sn k → sw_sb (s j)) (hroom : ¬ (q < 32 * k + sn k ∧ (s q).1 - W ≤ t) → sn k < 32) (hS : sw_S s a13 a14 a15 a16 a17 a18)
    (hp : ∀ l' b12 b13 b14 b15 b16 b17 b18, l' = sw_i (sw_tq W m l sn s t k v q).1 → sw_C (sw_tq W m l sn s t k v q).2.1 b12 → sw_S (sw_tq W m l sn s t k v q).2.2 b13 b14 b15 b16 b17 b18 → post (kd, sw_i W, pa, la, sw_i m, l', nw, rc, km, kl, kw, kr, tc, ts, tl, tm, a1, a2, a3, a4, a5, a6, a7, a8, a9, a10, a11, b12, b13, b14, b15, b16, b17, b18, a19, a20, a21, a22, a23, a24)) :
    wX_takeIntoSession_46 post (sw_i t) (nI k) (sw_i v) (nI q) (nI (32 * k + sn k)) kd (sw_i W) pa la (sw_i m) (sw_i l) nw rc km kl kw kr tc ts tl tm a1 a2 a3 a4 a5 a6 a7 a8 a9 a10 a11 a12 a13 a14 a15 a16 a17 a18 a19 a20 a21 a22 a23 a24 := by
  have h12 := hC k hk
  have no : ¬ (q < 32 * k + sn k ∧ (s q).1 - W ≤ t) → wX_takeIntoSession_73 post (sw_i t) (nI k) (sw_i v) (nI q) (nI (32 * k + sn k)) kd (sw_i W) pa la (sw_i m) (sw_i l) nw rc km kl kw kr tc ts tl tm a1 a2 a3 a4 a5 a6 a7 a8 a9 a10 a11 a12 a13 a14 a15 a16 a17 a18 a19 a20 a21 a22 a23 a24 := by
    intro hno
    unfold wX_takeIntoSession_73
    unfold wX_takeIntoSession_74
    refine br_t rfl ?_
    rw [sw_add, sw_p1]
    refine sw_blt m (t + W) rfl rfl (fun z => ?_) (fun z => ?_)
    · unfold wX_takeIntoSession_105
      refine br_t rfl ?_
      refine sw_w_ins hk h12 (hroom hno) hq1 hq2 hS (fun b13 b14 b15 b16 b17 b18 hb => ?_)
      refine hp _ _ _ _ _ _ _ _ ?_ ?_ ?_
      · unfold sw_tq
        rw [if_neg hno, if_neg (by omega)]
      · unfold sw_tq
        rw [if_neg hno, if_neg (by omega)]
        exact sw_C_u hC k (sn k + 1)
      · unfold sw_tq
        rw [if_neg hno, if_neg (by omega)]
        exact hb
    · refine nm_e (hp _ _ _ _ _ _ _ _ ?_ ?_ ?_)
      · unfold sw_tq
        rw [if_neg hno, if_pos z]
      · unfold sw_tq
        rw [if_neg hno, if_pos z]
        exact hC
      · unfold sw_tq
        rw [if_neg hno, if_pos z]
        exact hS
  unfold wX_takeIntoSession_46
  refine pk_le (32 * k + sn k) q (fun z => no (fun z2 => absurd z2.1 (by omega))) (fun z => ⟨pk_in q 128 (by omega), ?_⟩)
  have hbq := hb q hq1 z
  have hbq' := hbq
  unfold sw_sb at hbq'
  rw [nI_clamp (show q < 2 ^ 31 by omega), (hS q (by omega)).1, sw_sub]
  refine sw_blt t ((s q).1 - W) rfl rfl (fun z2 => no (fun z3 => absurd z3.2 (by omega))) (fun z2 => ?_)
  have yes : q < 32 * k + sn k ∧ (s q).1 - W ≤ t := ⟨z, z2⟩
  unfold wX_takeIntoSession_74
  refine br_f (by decide) ?_
  refine sw_w_t105 hk h12 hn2 hq1 z hW ht hv hbq (fun z3 => hb (q + 1) (by omega) z3) hS (fun hj b13 b14 b15 b16 b17 b18 hb => ?_) (fun hj b13 b14 b15 b16 b17 b18 hb => ?_)
  · refine hp _ _ _ _ _ _ _ _ ?_ ?_ ?_
    · unfold sw_tq
      rw [if_pos yes, if_neg hj]
    · unfold sw_tq
      rw [if_pos yes, if_neg hj]
      exact hC
    · unfold sw_tq
      rw [if_pos yes, if_neg hj]
      exact hb
  · refine hp _ _ _ _ _ _ _ _ ?_ ?_ ?_
    · unfold sw_tq
      rw [if_pos yes, if_pos hj]
    · unfold sw_tq
      rw [if_pos yes, if_pos hj]
      exact sw_C_u hC k (sn k - 1)
    · unfold sw_tq
      rw [if_pos yes, if_pos hj]
      exact hb
theorem sw_w_t17 {kd pa la mq lc nw rc km kl kw kr tc ts tl tm : Int32} {a1 a2 a3 a4 a5 a6 a7 a8 a9 a10 a11 a12 a13 a14 a15 a16 a17 a18 a19 a20 a21 a22 a23 a24 : Nat → Int32} {post : St2 → Prop} {s : Nat → sw_SS} {k e : Nat} {W t v : Int} (he : e ≤ 128) (hW : 1 ≤ W ∧ W ≤ 8) (ht : 0 ≤ t ∧ t ≤ 63) (hS : sw_S s a13 a14 a15 a16 a17 a18) :
    ∀ d q, q + d = e → (∀ j, q ≤ j → j < e → sw_sb (s j)) → wX_takeIntoSession_46 post (sw_i t) (nI k) (sw_i v) (nI (sw_sc s W t d q)) (nI e) kd (sw_i W) pa la mq lc nw rc km kl kw kr tc ts tl tm a1 a2 a3 a4 a5 a6 a7 a8 a9 a10 a11 a12 a13 a14 a15 a16 a17 a18 a19 a20 a21 a22 a23 a24 →
    wX_takeIntoSession_17 post (sw_i t) (nI k) (sw_i v) (nI e) kd (sw_i W) pa la mq lc nw rc km kl kw kr tc ts tl tm a1 a2 a3 a4 a5 a6 a7 a8 a9 a10 a11 a12 a13 a14 a15 a16 a17 a18 a19 a20 a21 a22 a23 a24 (d + 1) (nI q) := by
  intro d
  induction d with
  | zero =>
    intro q hq hb hp
    unfold wX_takeIntoSession_17
    exact pk_le e q (fun _ => hp) (fun z => absurd z (by omega))
  | succ d ih =>
    intro q hq hb hp
    unfold wX_takeIntoSession_17
    refine pk_le e q (fun z => absurd z (by omega)) (fun _ => ⟨pk_in q 128 (by omega), ?_⟩)
    have hbq := hb q (by omega) (by omega)
    unfold sw_sb at hbq
    rw [nI_clamp (show q < 2 ^ 31 by omega), (hS q (by omega)).2.1, sw_add]
    unfold sw_sc at hp
    refine sw_ble t ((s q).2.1 + W) rfl rfl (fun z => ?_) (fun z => ?_)
    · rw [if_neg (by omega)] at hp
      exact hp
    · rw [if_pos z] at hp
      exact nm_r (nI_1 q) (ih (q + 1) (by omega) (fun j h1 h2 => hb j (by omega) h2) hp)
theorem sw_w_ts {kd pa la nw rc km kl kw kr tc ts tl tm : Int32} {a1 a2 a3 a4 a5 a6 a7 a8 a9 a10 a11 a12 a13 a14 a15 a16 a17 a18 a19 a20 a21 a22 a23 a24 : Nat → Int32} {post : St2 → Prop} {sn : Nat → Nat} {s : Nat → sw_SS} {k : Nat} {W m l t v : Int} (hk : k < 4) (hC : sw_C sn a12) (hn2 : sn k ≤ 32)
    (hW : 1 ≤ W ∧ W ≤ 8) (ht : 0 ≤ t ∧ t ≤ 63) (hv : -50 ≤ v ∧ v ≤ 50) (hm : -1000 ≤ m ∧ m ≤ 63)
    (hb : ∀ j, 32 * k ≤ j → j < 32 * k + sn k → sw_sb (s j))
    (hroom : ¬ (sw_sc s W t (sn k) (32 * k) < 32 * k + sn k ∧ (s (sw_sc s W t (sn k) (32 * k))).1 - W ≤ t) → sn k < 32) (hS : sw_S s a13 a14 a15 a16 a17 a18)
    (hp : ∀ l' b12 b13 b14 b15 b16 b17 b18, l' = sw_i (sw_ts W m l sn s t k v).1 → sw_C (sw_ts W m l sn s t k v).2.1 b12 → sw_S (sw_ts W m l sn s t k v).2.2 b13 b14 b15 b16 b17 b18 → post (kd, sw_i W, pa, la, sw_i m, l', nw, rc, km, kl, kw, kr, tc, ts, tl, tm, a1, a2, a3, a4, a5, a6, a7, a8, a9, a10, a11, b12, b13, b14, b15, b16, b17, b18, a19, a20, a21, a22, a23, a24)) :
    wpX_takeIntoSession post (kd, sw_i W, pa, la, sw_i m, sw_i l, nw, rc, km, kl, kw, kr, tc, ts, tl, tm, a1, a2, a3, a4, a5, a6, a7, a8, a9, a10, a11, a12, a13, a14, a15, a16, a17, a18, a19, a20, a21, a22, a23, a24) (sw_i t) (nI k) (sw_i v) := by
  have hi := sw_sc_in s W t (sn k) (32 * k)
  unfold wpX_takeIntoSession
  dsimp only
  rw [nI_clamp (show k < 2 ^ 31 by omega), hC k hk, sw_e32']
  refine nm_e ⟨pk_in k 4 hk, nm_r (nI_add _ _) ⟨sn k + 1, ?_⟩⟩
  exact sw_w_t17 (by omega) hW ht hS (sn k) (32 * k) rfl hb (sw_w_t46 hk hC hn2 hi.1 hi.2 hW ht hv hm hb hroom hS hp)
end
section
/-- the pane arrays hold the panes -/
def sw_P (p : Nat → sw_PP) (a8 a9 a10 a11 : Nat → Int32) : Prop :=
  ∀ j, j < 256 → a8 j = sw_i (p j).1 ∧ a9 j = sw_i (p j).2.1 ∧ a10 j = sw_i (p j).2.2.1 ∧ a11 j = sw_i (p j).2.2.2
theorem sw_P_u {p : Nat → sw_PP} {a8 a9 a10 a11 : Nat → Int32} (h : sw_P p a8 a9 a10 a11) (q : Nat) (y : sw_PP) {x1 x2 x3 x4 : Int32}
    (e1 : x1 = sw_i y.1) (e2 : x2 = sw_i y.2.1) (e3 : x3 = sw_i y.2.2.1) (e4 : x4 = sw_i y.2.2.2) :
    sw_P (sw_u p q y) (upd a8 q x1) (upd a9 q x2) (upd a10 q x3) (upd a11 q x4) := by
  intro j hj
  by_cases e : j = q
  · subst e
    rw [sw_us, pk_us, pk_us, pk_us, pk_us]
    exact ⟨e1, e2, e3, e4⟩
  · rw [sw_un e, pk_un e, pk_un e, pk_un e, pk_un e]
    exact h j hj
/-- the bounds of a pane's numbers -/
def sw_pb (x : sw_PP) : Prop := 0 ≤ x.1 ∧ x.1 ≤ 50 ∧ -50 ≤ x.2.2.1 ∧ x.2.2.1 ≤ 50 ∧ -50 ≤ x.2.2.2 ∧ x.2.2.2 ≤ 50
theorem sw_w_p118 {kd wd pa la mq lc nw rc km kl kw kr tc ts tl tm : Int32} {a1 a2 a3 a4 a5 a6 a7 a8 a9 a10 a11 a12 a13 a14 a15 a16 a17 a18 a19 a20 a21 a22 a23 a24 : Nat → Int32} {post : St2 → Prop} {j : Nat} {x3 z0 : Int32} (hj : j < 256)
    (hp : post (kd, wd, pa, la, mq, lc, nw, rc, km, kl, kw, kr, tc, ts, tl, tm, a1, a2, a3, a4, a5, a6, a7, upd a8 j (a8 j + 1), upd a9 j (a9 j + x3), a10, upd a11 j z0, a12, a13, a14, a15, a16, a17, a18, a19, a20, a21, a22, a23, a24)) :
    wX_takeIntoPane_118 post x3 (nI j) z0 (nI j) kd wd pa la mq lc nw rc km kl kw kr tc ts tl tm a1 a2 a3 a4 a5 a6 a7 a8 a9 a10 a11 a12 a13 a14 a15 a16 a17 a18 a19 a20 a21 a22 a23 a24 := by
  have h0 : vp_in (nI j) 256 := pk_in j 256 hj
  unfold wX_takeIntoPane_118
  rw [nI_clamp (show j < 2 ^ 31 by omega)]
  exact ⟨h0, nm_e ⟨h0, h0, nm_e ⟨h0, h0, nm_e hp⟩⟩⟩
theorem sw_w_p79 {kd wd pa la mq lc nw rc km kl kw kr tc ts tl tm : Int32} {a1 a2 a3 a4 a5 a6 a7 a8 a9 a10 a11 a12 a13 a14 a15 a16 a17 a18 a19 a20 a21 a22 a23 a24 : Nat → Int32} {post : St2 → Prop} {p : Nat → sw_PP} {j : Nat} {v : Int} {z0 : Int32} (hj : j < 256) (hv : -50 ≤ v ∧ v ≤ 50) (hb : sw_pb (p j)) (hP : sw_P p a8 a9 a10 a11)
    (e3 : z0 = sw_i (sw_pv (p j) v).2.2.1)
    (hp : ∀ b8 b9 b10 b11, sw_P (sw_u p j (sw_pv (p j) v)) b8 b9 b10 b11 → post (kd, wd, pa, la, mq, lc, nw, rc, km, kl, kw, kr, tc, ts, tl, tm, a1, a2, a3, a4, a5, a6, a7, b8, b9, b10, b11, a12, a13, a14, a15, a16, a17, a18, a19, a20, a21, a22, a23, a24)) :
    wX_takeIntoPane_79 post (sw_i v) (nI j) z0 (nI j) kd wd pa la mq lc nw rc km kl kw kr tc ts tl tm a1 a2 a3 a4 a5 a6 a7 a8 a9 a10 a11 a12 a13 a14 a15 a16 a17 a18 a19 a20 a21 a22 a23 a24 := by
  have h0 : vp_in (nI j) 256 := pk_in j 256 hj
  obtain ⟨d1, d2, d3, d4⟩ := hP j hj
  unfold sw_pb at hb
  have fin : ∀ z4, z4 = sw_i (sw_pv (p j) v).2.2.2 → post (kd, wd, pa, la, mq, lc, nw, rc, km, kl, kw, kr, tc, ts, tl, tm, a1, a2, a3, a4, a5, a6, a7, upd a8 j (a8 j + 1), upd a9 j (a9 j + sw_i v), upd a10 j z0, upd a11 j z4, a12, a13, a14, a15, a16, a17, a18, a19, a20, a21, a22, a23, a24) :=
    fun z4 e4 => hp _ _ _ _ (sw_P_u hP j _ (by rw [d1, sw_p1]; rfl) (by rw [d2, sw_add]; rfl) e3 e4)
  unfold wX_takeIntoPane_79
  rw [nI_clamp (show j < 2 ^ 31 by omega)]
  refine ⟨h0, nm_e ⟨h0, ?_⟩⟩
  refine sw_beq (p j).1 0 d1 rfl (fun z => ?_) (fun z => ⟨h0, ?_⟩)
  · refine sw_w_p118 hj (fin _ ?_)
    show sw_i v = sw_i (if (p j).1 = 0 ∨ (p j).2.2.2 < v then v else (p j).2.2.2)
    rw [if_pos (Or.inl z)]
  · refine sw_ble v (p j).2.2.2 rfl d4 (fun z2 => ⟨h0, sw_w_p118 hj (fin _ ?_)⟩) (fun z2 => sw_w_p118 hj (fin _ ?_))
    · show a11 j = sw_i (if (p j).1 = 0 ∨ (p j).2.2.2 < v then v else (p j).2.2.2)
      rw [if_neg (by omega), d4]
    · show sw_i v = sw_i (if (p j).1 = 0 ∨ (p j).2.2.2 < v then v else (p j).2.2.2)
      rw [if_pos (Or.inr z2)]
theorem sw_w_tp {kd la nw rc km kl kw kr tc ts tl tm : Int32} {a1 a2 a3 a4 a5 a6 a7 a8 a9 a10 a11 a12 a13 a14 a15 a16 a17 a18 a19 a20 a21 a22 a23 a24 : Nat → Int32} {post : St2 → Prop} {p : Nat → sw_PP} {k : Nat} {W P m l t v : Int} (hk : k < 4) (hW : 1 ≤ W ∧ W ≤ 8) (hPa : 1 ≤ P ∧ P ≤ 4) (ht : 0 ≤ t ∧ t ≤ 63) (hv : -50 ≤ v ∧ v ≤ 50) (hm : -1000 ≤ m ∧ m ≤ 63)
    (hb : ∀ j, j < 256 → sw_pb (p j)) (hP : sw_P p a8 a9 a10 a11)
    (hp : ∀ l' b8 b9 b10 b11, l' = sw_i (sw_tp W P m l p t k v).1 → sw_P (sw_tp W P m l p t k v).2 b8 b9 b10 b11 → post (kd, sw_i W, sw_i P, la, sw_i m, l', nw, rc, km, kl, kw, kr, tc, ts, tl, tm, a1, a2, a3, a4, a5, a6, a7, b8, b9, b10, b11, a12, a13, a14, a15, a16, a17, a18, a19, a20, a21, a22, a23, a24)) :
    wpX_takeIntoPane post (kd, sw_i W, sw_i P, la, sw_i m, sw_i l, nw, rc, km, kl, kw, kr, tc, ts, tl, tm, a1, a2, a3, a4, a5, a6, a7, a8, a9, a10, a11, a12, a13, a14, a15, a16, a17, a18, a19, a20, a21, a22, a23, a24) (sw_i t) (nI k) (sw_i v) := by
  have hw0 : 0 ≤ t / W := Int.ediv_nonneg ht.1 (by omega)
  have hw1 : t / W ≤ t := Int.ediv_le_self W ht.1
  have hmul : (t / W + P) * W ≤ 1000 := by
    have h1 : (t / W) * W ≤ t := Int.ediv_mul_le t (by omega)
    have h2 : P * W ≤ 4 * W := Int.mul_le_mul_of_nonneg_right hPa.2 (by omega)
    rw [Int.add_mul]
    omega
  have hmul0 : 0 ≤ (t / W + P) * W := Int.mul_nonneg (by omega) (by omega)
  obtain ⟨j, hj⟩ : ∃ j, j = 64 * k + (t / W).toNat := ⟨_, rfl⟩
  have hj2 : j < 256 := by omega
  have h0 : vp_in (nI j) 256 := pk_in j 256 hj2
  obtain ⟨d1, d2, d3, d4⟩ := hP j hj2
  have hbj := hb j hj2
  have hbj' := hbj
  unfold sw_pb at hbj'
  unfold wpX_takeIntoPane
  dsimp only
  unfold wpX_endOf
  dsimp only
  rw [sw_div ht.1 (by omega) (by omega) (by omega)]
  refine ⟨?_, nm_e ?_⟩
  · have e0 : (0 : Int32) = sw_i 0 := rfl
    rw [e0, sw_eq (by omega) (by omega) (by omega) (by omega)]
    omega
  · rw [sw_add, sw_mul, sw_p1]
    refine sw_blt m ((t / W + P) * W) rfl rfl (fun z => ?_) (fun z => ?_)
    · have e1 : (64 : Int32) * nI k + sw_i (t / W) = nI j := by
        rw [sw_nn hw0, sw_e64, hj]
      rw [e1]
      refine nm_e ⟨h0, ?_⟩
      rw [nI_clamp (show j < 2 ^ 31 by omega)]
      have fin : ∀ z0, z0 = sw_i (sw_pv (p j) v).2.2.1 → wX_takeIntoPane_79 post (sw_i v) (nI j) z0 (nI j) kd (sw_i W) (sw_i P) la (sw_i m) (sw_i l) nw rc km kl kw kr tc ts tl tm a1 a2 a3 a4 a5 a6 a7 a8 a9 a10 a11 a12 a13 a14 a15 a16 a17 a18 a19 a20 a21 a22 a23 a24 := by
        intro z0 e3
        refine sw_w_p79 hj2 hv hbj hP e3 (fun b8 b9 b10 b11 hb2 => hp _ _ _ _ _ ?_ ?_)
        · unfold sw_tp
          rw [if_pos z]
        · unfold sw_tp
          rw [if_pos z, ← hj]
          exact hb2
      refine sw_beq (p j).1 0 d1 rfl (fun z2 => ?_) (fun z2 => ⟨h0, ?_⟩)
      · unfold wX_takeIntoPane_68
        refine fin _ ?_
        show sw_i v = sw_i (if (p j).1 = 0 ∨ v < (p j).2.2.1 then v else (p j).2.2.1)
        rw [if_pos (Or.inl z2)]
      · refine sw_ble (p j).2.2.1 v d3 rfl (fun z3 => ⟨h0, fin _ ?_⟩) (fun z3 => ?_)
        · show a10 j = sw_i (if (p j).1 = 0 ∨ v < (p j).2.2.1 then v else (p j).2.2.1)
          rw [if_neg (by omega), d3]
        · unfold wX_takeIntoPane_68
          refine fin _ ?_
          show sw_i v = sw_i (if (p j).1 = 0 ∨ v < (p j).2.2.1 then v else (p j).2.2.1)
          rw [if_pos (Or.inr z3)]
    · refine nm_e (hp _ _ _ _ _ ?_ ?_)
      · unfold sw_tp
        rw [if_neg (by omega)]
      · unfold sw_tp
        rw [if_neg (by omega)]
        exact hP
/-- the bounds of a sum that is being put together -/
def sw_tb (N : Int) (x : sw_PP) : Prop := 0 ≤ x.1 ∧ x.1 ≤ N ∧ -50 ≤ x.2.2.1 ∧ x.2.2.1 ≤ 50 ∧ -50 ≤ x.2.2.2 ∧ x.2.2.2 ≤ 50
theorem sw_w_a71 {kd wd pa la mq lc nw rc km kl kw kr tm : Int32} {a1 a2 a3 a4 a5 a6 a7 a8 a9 a10 a11 a12 a13 a14 a15 a16 a17 a18 a19 a20 a21 a22 a23 a24 : Nat → Int32} {post : St2 → Prop} {p : Nat → sw_PP} {x : sw_PP} {j : Nat} {z0 z4 : Int32} (hj : j < 256) (hP : sw_P p a8 a9 a10 a11) (e3 : z0 = sw_i (sw_ad x (p j)).2.2.1) (e4 : z4 = sw_i (sw_ad x (p j)).2.2.2)
    (hp : post (kd, wd, pa, la, mq, lc, nw, rc, km, kl, kw, kr, sw_i (sw_ad x (p j)).1, sw_i (sw_ad x (p j)).2.1, sw_i (sw_ad x (p j)).2.2.1, sw_i (sw_ad x (p j)).2.2.2, a1, a2, a3, a4, a5, a6, a7, a8, a9, a10, a11, a12, a13, a14, a15, a16, a17, a18, a19, a20, a21, a22, a23, a24)) :
    wX_addPane_71 post (nI j) z4 kd wd pa la mq lc nw rc km kl kw kr (sw_i x.1) (sw_i x.2.1) z0 tm a1 a2 a3 a4 a5 a6 a7 a8 a9 a10 a11 a12 a13 a14 a15 a16 a17 a18 a19 a20 a21 a22 a23 a24 := by
  have h0 : vp_in (nI j) 256 := pk_in j 256 hj
  obtain ⟨d1, d2, d3, d4⟩ := hP j hj
  subst e3 e4
  unfold wX_addPane_71
  rw [nI_clamp (show j < 2 ^ 31 by omega), d1, d2]
  exact ⟨h0, nm_r (sw_add _ _) ⟨h0, nm_r (sw_add _ _) hp⟩⟩
theorem sw_w_a34 {kd wd pa la mq lc nw rc km kl kw kr : Int32} {a1 a2 a3 a4 a5 a6 a7 a8 a9 a10 a11 a12 a13 a14 a15 a16 a17 a18 a19 a20 a21 a22 a23 a24 : Nat → Int32} {post : St2 → Prop} {p : Nat → sw_PP} {x : sw_PP} {j : Nat} {z0 : Int32} (hj : j < 256) (hP : sw_P p a8 a9 a10 a11) (hb : sw_pb (p j)) (hx : sw_tb 1000 x) (e3 : z0 = sw_i (sw_ad x (p j)).2.2.1)
    (hp : post (kd, wd, pa, la, mq, lc, nw, rc, km, kl, kw, kr, sw_i (sw_ad x (p j)).1, sw_i (sw_ad x (p j)).2.1, sw_i (sw_ad x (p j)).2.2.1, sw_i (sw_ad x (p j)).2.2.2, a1, a2, a3, a4, a5, a6, a7, a8, a9, a10, a11, a12, a13, a14, a15, a16, a17, a18, a19, a20, a21, a22, a23, a24)) :
    wX_addPane_34 post (nI j) z0 kd wd pa la mq lc nw rc km kl kw kr (sw_i x.1) (sw_i x.2.1) (sw_i x.2.2.1) (sw_i x.2.2.2) a1 a2 a3 a4 a5 a6 a7 a8 a9 a10 a11 a12 a13 a14 a15 a16 a17 a18 a19 a20 a21 a22 a23 a24 := by
  have h0 : vp_in (nI j) 256 := pk_in j 256 hj
  obtain ⟨d1, d2, d3, d4⟩ := hP j hj
  unfold sw_pb at hb
  unfold sw_tb at hx
  have c0 : (nI j).toNatClampNeg = j := nI_clamp (by omega)
  have k58 : (x.1 = 0 ∨ x.2.2.2 < (p j).2.2.2) → wX_addPane_58 post (nI j) kd wd pa la mq lc nw rc km kl kw kr (sw_i x.1) (sw_i x.2.1) z0 (sw_i x.2.2.2) a1 a2 a3 a4 a5 a6 a7 a8 a9 a10 a11 a12 a13 a14 a15 a16 a17 a18 a19 a20 a21 a22 a23 a24 := by
    intro hc
    unfold wX_addPane_58
    rw [c0]
    refine ⟨h0, sw_w_a71 hj hP e3 ?_ hp⟩
    show a11 j = sw_i (if x.1 = 0 ∨ x.2.2.2 < (p j).2.2.2 then (p j).2.2.2 else x.2.2.2)
    rw [if_pos hc, d4]
  unfold wX_addPane_34
  rw [c0]
  refine sw_beq x.1 0 rfl rfl (fun z => k58 (Or.inl z)) (fun z => ⟨h0, ?_⟩)
  refine sw_ble (p j).2.2.2 x.2.2.2 d4 rfl (fun z2 => sw_w_a71 hj hP e3 ?_ hp) (fun z2 => k58 (Or.inr z2))
  show sw_i x.2.2.2 = sw_i (if x.1 = 0 ∨ x.2.2.2 < (p j).2.2.2 then (p j).2.2.2 else x.2.2.2)
  rw [if_neg (by omega)]
theorem sw_w_add {kd wd pa la mq lc nw rc km kl kw kr : Int32} {a1 a2 a3 a4 a5 a6 a7 a8 a9 a10 a11 a12 a13 a14 a15 a16 a17 a18 a19 a20 a21 a22 a23 a24 : Nat → Int32} {post : St2 → Prop} {p : Nat → sw_PP} {x : sw_PP} {j : Nat} (hj : j < 256) (hP : sw_P p a8 a9 a10 a11) (hb : sw_pb (p j)) (hx : sw_tb 1000 x)
    (hp : post (kd, wd, pa, la, mq, lc, nw, rc, km, kl, kw, kr, sw_i (sw_ad x (p j)).1, sw_i (sw_ad x (p j)).2.1, sw_i (sw_ad x (p j)).2.2.1, sw_i (sw_ad x (p j)).2.2.2, a1, a2, a3, a4, a5, a6, a7, a8, a9, a10, a11, a12, a13, a14, a15, a16, a17, a18, a19, a20, a21, a22, a23, a24)) :
    wpX_addPane post (kd, wd, pa, la, mq, lc, nw, rc, km, kl, kw, kr, sw_i x.1, sw_i x.2.1, sw_i x.2.2.1, sw_i x.2.2.2, a1, a2, a3, a4, a5, a6, a7, a8, a9, a10, a11, a12, a13, a14, a15, a16, a17, a18, a19, a20, a21, a22, a23, a24) (nI j) := by
  have h0 : vp_in (nI j) 256 := pk_in j 256 hj
  obtain ⟨d1, d2, d3, d4⟩ := hP j hj
  have hb' := hb
  have hx' := hx
  unfold sw_pb at hb'
  unfold sw_tb at hx'
  have c0 : (nI j).toNatClampNeg = j := nI_clamp (by omega)
  have k21 : (x.1 = 0 ∨ (p j).2.2.1 < x.2.2.1) → wX_addPane_21 post (nI j) kd wd pa la mq lc nw rc km kl kw kr (sw_i x.1) (sw_i x.2.1) (sw_i x.2.2.1) (sw_i x.2.2.2) a1 a2 a3 a4 a5 a6 a7 a8 a9 a10 a11 a12 a13 a14 a15 a16 a17 a18 a19 a20 a21 a22 a23 a24 := by
    intro hc
    unfold wX_addPane_21
    rw [c0]
    refine ⟨h0, sw_w_a34 hj hP hb hx ?_ hp⟩
    show a10 j = sw_i (if x.1 = 0 ∨ (p j).2.2.1 < x.2.2.1 then (p j).2.2.1 else x.2.2.1)
    rw [if_pos hc, d3]
  unfold wpX_addPane
  dsimp only
  rw [c0]
  refine sw_beq x.1 0 rfl rfl (fun z => k21 (Or.inl z)) (fun z => ⟨h0, ?_⟩)
  refine sw_ble x.2.2.1 (p j).2.2.1 rfl d3 (fun z2 => sw_w_a34 hj hP hb hx ?_ hp) (fun z2 => k21 (Or.inr z2))
  show sw_i x.2.2.1 = sw_i (if x.1 = 0 ∨ (p j).2.2.1 < x.2.2.1 then (p j).2.2.1 else x.2.2.1)
  rw [if_neg (by omega)]
theorem sw_tb_ad {N : Int} {x y : sw_PP} (hx : sw_tb N x) (hy : sw_pb y) : sw_tb (N + 50) (sw_ad x y) := by
  unfold sw_tb at *
  unfold sw_pb at hy
  unfold sw_ad
  dsimp only
  refine ⟨by omega, by omega, ?_, ?_, ?_, ?_⟩ <;> split <;> omega
theorem sw_tb_1 {N : Int} {p : Nat → sw_PP} {k : Nat} {w : Int} {x : sw_PP} (hk : k < 4) (hb : ∀ j, j < 256 → sw_pb (p j)) (hx : sw_tb N x) : sw_tb (N + 50) (sw_p1d p k w x) := by
  unfold sw_p1d
  split
  · exact sw_tb_ad hx (hb _ (by omega))
  · unfold sw_tb at *
    omega
theorem sw_w_put22 {kd wd la mq lc nw rc km kl kw kr : Int32} {a1 a2 a3 a4 a5 a6 a7 a8 a9 a10 a11 a12 a13 a14 a15 a16 a17 a18 a19 a20 a21 a22 a23 a24 : Nat → Int32} {post : St2 → Prop} {p : Nat → sw_PP} {k : Nat} {P w0 : Int} (hk : k < 4) (hPa : 1 ≤ P ∧ P ≤ 4) (hw0 : -10 ≤ w0 ∧ w0 ≤ 64) (hb : ∀ j, j < 256 → sw_pb (p j)) (hP : sw_P p a8 a9 a10 a11) :
    ∀ (d : Nat) (w : Int) (x : sw_PP), w + d = w0 + P → w0 ≤ w → sw_tb (1000 - 50 * d) x →
    post (kd, wd, sw_i P, la, mq, lc, nw, rc, km, kl, kw, kr, sw_i (sw_pt p k d w x).1, sw_i (sw_pt p k d w x).2.1, sw_i (sw_pt p k d w x).2.2.1, sw_i (sw_pt p k d w x).2.2.2, a1, a2, a3, a4, a5, a6, a7, a8, a9, a10, a11, a12, a13, a14, a15, a16, a17, a18, a19, a20, a21, a22, a23, a24) →
    wX_putTogether_22 post (sw_i w0) (nI k) (d + 1) (sw_i w) kd wd (sw_i P) la mq lc nw rc km kl kw kr (sw_i x.1) (sw_i x.2.1) (sw_i x.2.2.1) (sw_i x.2.2.2) a1 a2 a3 a4 a5 a6 a7 a8 a9 a10 a11 a12 a13 a14 a15 a16 a17 a18 a19 a20 a21 a22 a23 a24 := by
  intro d
  induction d with
  | zero =>
    intro w x hw hw1 hx hp
    unfold wX_putTogether_22
    rw [sw_add]
    exact sw_ble (w0 + P) w rfl rfl (fun _ => hp) (fun z => absurd z (by omega))
  | succ d ih =>
    intro w x hw hw1 hx hp
    unfold wX_putTogether_22
    rw [sw_add, sw_p1]
    have hx2 := sw_tb_1 (w := w) hk hb hx
    have nx : sw_tb (1000 - 50 * d) (sw_p1d p k w x) := by
      have e : (1000 - 50 * ((d + 1 : Nat) : Int) + 50) = 1000 - 50 * (d : Int) := by omega
      rw [e] at hx2
      exact hx2
    have go := ih (w + 1) (sw_p1d p k w x) (by omega) (by omega) nx hp
    refine sw_ble (w0 + P) w rfl rfl (fun z => absurd z (by omega)) (fun _ => ?_)
    refine sw_blt w 0 rfl rfl (fun z => ?_) (fun z => ?_)
    · unfold sw_p1d at go
      rw [if_neg (by omega)] at go
      exact nm_e go
    · refine sw_ble 64 w rfl rfl (fun z2 => ?_) (fun z2 => ?_)
      · unfold sw_p1d at go
        rw [if_neg (by omega)] at go
        exact nm_e go
      · obtain ⟨j, hj⟩ : ∃ j, j = 64 * k + w.toNat := ⟨_, rfl⟩
        have e1 : (64 : Int32) * nI k + sw_i w = nI j := by
          rw [sw_nn z, sw_e64, hj]
        have hj2 : j < 256 := by omega
        rw [e1, nI_clamp (show j < 2 ^ 31 by omega)]
        refine ⟨pk_in j 256 hj2, ?_⟩
        have hbj := hb j hj2
        have hbj' := hbj
        unfold sw_pb at hbj'
        unfold sw_p1d at go
        rw [← hj] at go
        refine sw_ble (p j).1 0 (hP j hj2).1 rfl (fun z3 => ?_) (fun z3 => ?_)
        · rw [if_neg (by omega)] at go
          exact nm_e go
        · rw [if_pos ⟨z, by omega, z3⟩] at go
          refine sw_w_add hj2 hP hbj ?_ (nm_e go)
          unfold sw_tb at *
          omega
theorem sw_w_put {kd wd la mq lc nw rc km kl kw kr tc ts tl tm : Int32} {a1 a2 a3 a4 a5 a6 a7 a8 a9 a10 a11 a12 a13 a14 a15 a16 a17 a18 a19 a20 a21 a22 a23 a24 : Nat → Int32} {post : St2 → Prop} {p : Nat → sw_PP} {k : Nat} {P w : Int} (hk : k < 4) (hPa : 1 ≤ P ∧ P ≤ 4) (hw : -10 ≤ w ∧ w ≤ 64) (hb : ∀ j, j < 256 → sw_pb (p j)) (hP : sw_P p a8 a9 a10 a11)
    (hp : post (kd, wd, sw_i P, la, mq, lc, nw, rc, km, kl, kw, kr, sw_i (sw_tot p P k w).1, sw_i (sw_tot p P k w).2.1, sw_i (sw_tot p P k w).2.2.1, sw_i (sw_tot p P k w).2.2.2, a1, a2, a3, a4, a5, a6, a7, a8, a9, a10, a11, a12, a13, a14, a15, a16, a17, a18, a19, a20, a21, a22, a23, a24)) :
    wpX_putTogether post (kd, wd, sw_i P, la, mq, lc, nw, rc, km, kl, kw, kr, tc, ts, tl, tm, a1, a2, a3, a4, a5, a6, a7, a8, a9, a10, a11, a12, a13, a14, a15, a16, a17, a18, a19, a20, a21, a22, a23, a24) (sw_i w) (nI k) := by
  unfold wpX_putTogether
  dsimp only
  refine ⟨P.toNat + 1, sw_w_put22 hk hPa hw hb hP P.toNat w (0, 0, 0, 0) (by omega) (by omega) ?_ hp⟩
  unfold sw_tb
  dsimp only
  omega
end
section
/-- the result cells hold the results -/
def sw_Rs (r : sw_RS) (a19 : Nat → Int32) : Prop :=
  ∀ i, i < r.1 → a19 (7 * i) = sw_i (r.2 i).1 ∧ a19 (7 * i + 1) = sw_i (r.2 i).2.1 ∧ a19 (7 * i + 2) = sw_i (r.2 i).2.2.1 ∧ a19 (7 * i + 3) = sw_i (r.2 i).2.2.2.1
    ∧ a19 (7 * i + 4) = sw_i (r.2 i).2.2.2.2.1 ∧ a19 (7 * i + 5) = sw_i (r.2 i).2.2.2.2.2.1 ∧ a19 (7 * i + 6) = sw_i (r.2 i).2.2.2.2.2.2
theorem sw_Rs_add {r : sw_RS} {a : Nat → Int32} (h : sw_Rs r a) (y : sw_RR) :
    sw_Rs (r.1 + 1, sw_u r.2 r.1 y) (upd (upd (upd (upd (upd (upd (upd a (7 * r.1) (sw_i y.1)) (7 * r.1 + 1) (sw_i y.2.1)) (7 * r.1 + 2) (sw_i y.2.2.1)) (7 * r.1 + 3) (sw_i y.2.2.2.1)) (7 * r.1 + 4) (sw_i y.2.2.2.2.1)) (7 * r.1 + 5) (sw_i y.2.2.2.2.2.1)) (7 * r.1 + 6) (sw_i y.2.2.2.2.2.2)) := by
  intro i hi
  have hi' : i < r.1 + 1 := hi
  show _ = sw_i (sw_u r.2 r.1 y i).1 ∧ _ = sw_i (sw_u r.2 r.1 y i).2.1 ∧ _ = sw_i (sw_u r.2 r.1 y i).2.2.1 ∧ _ = sw_i (sw_u r.2 r.1 y i).2.2.2.1 ∧ _ = sw_i (sw_u r.2 r.1 y i).2.2.2.2.1 ∧ _ = sw_i (sw_u r.2 r.1 y i).2.2.2.2.2.1 ∧ _ = sw_i (sw_u r.2 r.1 y i).2.2.2.2.2.2
  by_cases e : i = r.1
  · subst e
    rw [sw_us]
    unfold upd
    refine ⟨?_, ?_, ?_, ?_, ?_, ?_, ?_⟩
    · rw [if_neg (by omega), if_neg (by omega), if_neg (by omega), if_neg (by omega), if_neg (by omega), if_neg (by omega), if_pos rfl]
    · rw [if_neg (by omega), if_neg (by omega), if_neg (by omega), if_neg (by omega), if_neg (by omega), if_pos rfl]
    · rw [if_neg (by omega), if_neg (by omega), if_neg (by omega), if_neg (by omega), if_pos rfl]
    · rw [if_neg (by omega), if_neg (by omega), if_neg (by omega), if_pos rfl]
    · rw [if_neg (by omega), if_neg (by omega), if_pos rfl]
    · rw [if_neg (by omega), if_pos rfl]
    · rw [if_pos rfl]
  · rw [sw_un e]
    have o : ∀ j, j < 7 * r.1 → upd (upd (upd (upd (upd (upd (upd a (7 * r.1) (sw_i y.1)) (7 * r.1 + 1) (sw_i y.2.1)) (7 * r.1 + 2) (sw_i y.2.2.1)) (7 * r.1 + 3) (sw_i y.2.2.2.1)) (7 * r.1 + 4) (sw_i y.2.2.2.2.1)) (7 * r.1 + 5) (sw_i y.2.2.2.2.2.1)) (7 * r.1 + 6) (sw_i y.2.2.2.2.2.2) j = a j := by
      intro j hj
      rw [pk_un (by omega), pk_un (by omega), pk_un (by omega), pk_un (by omega), pk_un (by omega), pk_un (by omega), pk_un (by omega)]
    rw [o _ (by omega), o _ (by omega), o _ (by omega), o _ (by omega), o _ (by omega), o _ (by omega), o _ (by omega)]
    exact h i (by omega)
theorem sw_w_res {kd wd pa la mq lc nw km kl kw kr : Int32} {a1 a2 a3 a4 a5 a6 a7 a8 a9 a10 a11 a12 a13 a14 a15 a16 a17 a18 a19 a20 a21 a22 a23 a24 : Nat → Int32} {post : St2 → Prop} {r : sw_RS} {k s e : Int} {x : sw_PP} (hr : r.1 < 300) (hR : sw_Rs r a19)
    (hp : ∀ b19, sw_Rs (r.1 + 1, sw_u r.2 r.1 (k, s, e, x)) b19 → post (kd, wd, pa, la, mq, lc, nw, nI (r.1 + 1), km, kl, kw, kr, sw_i x.1, sw_i x.2.1, sw_i x.2.2.1, sw_i x.2.2.2, a1, a2, a3, a4, a5, a6, a7, a8, a9, a10, a11, a12, a13, a14, a15, a16, a17, a18, b19, a20, a21, a22, a23, a24)) :
    wpX_addResult post (kd, wd, pa, la, mq, lc, nw, nI r.1, km, kl, kw, kr, sw_i x.1, sw_i x.2.1, sw_i x.2.2.1, sw_i x.2.2.2, a1, a2, a3, a4, a5, a6, a7, a8, a9, a10, a11, a12, a13, a14, a15, a16, a17, a18, a19, a20, a21, a22, a23, a24) (sw_i k) (sw_i s) (sw_i e) := by
  have h := sw_Rs_add hR (k, s, e, x)
  unfold wpX_addResult
  dsimp only
  have e0 : (7 : Int32) * nI r.1 = nI (7 * r.1) := by
    show nI 7 * nI r.1 = _
    rw [pk_mul]
  have q1 : ∀ c : Nat, nI (7 * r.1) + nI c = nI (7 * r.1 + c) := fun c => nI_add _ _
  have f1 : nI (7 * r.1) + 1 = nI (7 * r.1 + 1) := q1 1
  have f2 : nI (7 * r.1) + 2 = nI (7 * r.1 + 2) := q1 2
  have f3 : nI (7 * r.1) + 3 = nI (7 * r.1 + 3) := q1 3
  have f4 : nI (7 * r.1) + 4 = nI (7 * r.1 + 4) := q1 4
  have f5 : nI (7 * r.1) + 5 = nI (7 * r.1 + 5) := q1 5
  have f6 : nI (7 * r.1) + 6 = nI (7 * r.1 + 6) := q1 6
  rw [e0]
  refine nm_e ?_
  rw [f1, f2, f3, f4, f5, f6, nI_clamp (show 7 * r.1 < 2 ^ 31 by omega), nI_clamp (show 7 * r.1 + 1 < 2 ^ 31 by omega), nI_clamp (show 7 * r.1 + 2 < 2 ^ 31 by omega), nI_clamp (show 7 * r.1 + 3 < 2 ^ 31 by omega), nI_clamp (show 7 * r.1 + 4 < 2 ^ 31 by omega), nI_clamp (show 7 * r.1 + 5 < 2 ^ 31 by omega), nI_clamp (show 7 * r.1 + 6 < 2 ^ 31 by omega)]
  exact ⟨pk_in (7 * r.1) 2100 (by omega), nm_e ⟨pk_in (7 * r.1 + 1) 2100 (by omega), nm_e ⟨pk_in (7 * r.1 + 2) 2100 (by omega), nm_e ⟨pk_in (7 * r.1 + 3) 2100 (by omega), nm_e ⟨pk_in (7 * r.1 + 4) 2100 (by omega), nm_e ⟨pk_in (7 * r.1 + 5) 2100 (by omega), nm_e ⟨pk_in (7 * r.1 + 6) 2100 (by omega), nm_e (nm_r (nI_1 r.1) (hp _ h))⟩⟩⟩⟩⟩⟩⟩
theorem sw_pt_tb {p : Nat → sw_PP} {k : Nat} (hk : k < 4) (hb : ∀ j, j < 256 → sw_pb (p j)) : ∀ (d : Nat) (w : Int) (x : sw_PP) (N : Int), sw_tb N x → sw_tb (N + 50 * d) (sw_pt p k d w x) := by
  intro d
  induction d with
  | zero =>
    intro w x N hx
    have e : N + 50 * ((0 : Nat) : Int) = N := by omega
    rw [e]
    exact hx
  | succ d ih =>
    intro w x N hx
    have := ih (w + 1) (sw_p1d p k w x) (N + 50) (sw_tb_1 hk hb hx)
    have e : N + 50 * ((d + 1 : Nat) : Int) = N + 50 + 50 * (d : Int) := by omega
    rw [e]
    exact this
theorem sw_tot_tb {p : Nat → sw_PP} {k : Nat} {P w : Int} (hk : k < 4) (hPa : 1 ≤ P ∧ P ≤ 4) (hb : ∀ j, j < 256 → sw_pb (p j)) : sw_tb 200 (sw_tot p P k w) := by
  have h := sw_pt_tb hk hb P.toNat w (0, 0, 0, 0) 0 (by unfold sw_tb; dsimp only; omega)
  unfold sw_tot
  unfold sw_tb at *
  omega
theorem sw_w_c26 {kd la mq lc km kl kw kr : Int32} {a1 a2 a3 a4 a5 a6 a7 a8 a9 a10 a11 a12 a13 a14 a15 a16 a17 a18 a20 a21 a22 a23 a24 : Nat → Int32} {post : St2 → Prop} {J0 : Int32 → Int32 → Int32 → Int32 → Int32 → Int32 → Int32 → Int32 → Int32 → Int32 → Int32 → Int32 → Int32 → Int32 → Int32 → Int32 → (Nat → Int32) → (Nat → Int32) → (Nat → Int32) → (Nat → Int32) → (Nat → Int32) → (Nat → Int32) → (Nat → Int32) → (Nat → Int32) → (Nat → Int32) → (Nat → Int32) → (Nat → Int32) → (Nat → Int32) → (Nat → Int32) → (Nat → Int32) → (Nat → Int32) → (Nat → Int32) → (Nat → Int32) → (Nat → Int32) → (Nat → Int32) → (Nat → Int32) → (Nat → Int32) → (Nat → Int32) → (Nat → Int32) → (Nat → Int32) → Prop}
    {p : Nat → sw_PP} {W P nw : Int} (hPa : 1 ≤ P ∧ P ≤ 4) (hw : -10 ≤ nw ∧ nw ≤ 64) (hb : ∀ j, j < 256 → sw_pb (p j)) (hP : sw_P p a8 a9 a10 a11) :
    ∀ (d k : Nat) (r : sw_RS) (tc ts tl tm : Int32) (a19 : Nat → Int32), k + d = 4 → r.1 + d ≤ 300 → sw_Rs r a19 →
    (∀ tc ts tl tm b19, sw_Rs (sw_cn p W P nw d k r) b19 → J0 kd (sw_i W) (sw_i P) la mq lc (sw_i (nw + 1)) (nI (sw_cn p W P nw d k r).1) km kl kw kr tc ts tl tm a1 a2 a3 a4 a5 a6 a7 a8 a9 a10 a11 a12 a13 a14 a15 a16 a17 a18 b19 a20 a21 a22 a23 a24) →
    wX_closeWindows_26 post J0 (d + 1) (nI k) kd (sw_i W) (sw_i P) la mq lc (sw_i nw) (nI r.1) km kl kw kr tc ts tl tm a1 a2 a3 a4 a5 a6 a7 a8 a9 a10 a11 a12 a13 a14 a15 a16 a17 a18 a19 a20 a21 a22 a23 a24 := by
  intro d
  induction d with
  | zero =>
    intro k r tc ts tl tm a19 hk hr hR hp
    unfold wX_closeWindows_26
    rw [sw_p1]
    exact pk_le 4 k (fun _ => nm_e (hp _ _ _ _ _ hR)) (fun z => absurd z (by omega))
  | succ d ih =>
    intro k r tc ts tl tm a19 hk hr hR hp
    unfold wX_closeWindows_26
    refine pk_le 4 k (fun z => absurd z (by omega)) (fun _ => ?_)
    refine sw_w_put (by omega) hPa hw hb hP ?_
    have ht := sw_tot_tb (w := nw) (show k < 4 by omega) hPa hb
    unfold sw_tb at ht
    unfold sw_cn sw_ck at hp
    refine sw_ble (sw_tot p P k nw).1 0 rfl rfl (fun z => ?_) (fun z => ?_)
    · rw [if_neg (by omega)] at hp
      exact nm_r (nI_1 k) (ih (k + 1) r _ _ _ _ _ (by omega) (by omega) hR hp)
    · rw [if_pos z] at hp
      unfold wpX_endOf
      dsimp only
      rw [sw_mul, sw_add, sw_mul, sw_n k]
      refine sw_w_res (by omega) hR (fun b19 hb19 => ?_)
      rw [← sw_n k]
      refine nm_r (nI_1 k) (ih (k + 1) _ _ _ _ _ _ (by omega) ?_ hb19 hp)
      show r.1 + 1 + d ≤ 300
      omega
theorem sw_cn_rc (p : Nat → sw_PP) (W P nw : Int) : ∀ d k r, r.1 ≤ (sw_cn p W P nw d k r).1 ∧ (sw_cn p W P nw d k r).1 ≤ r.1 + d := by
  intro d
  induction d with
  | zero => intro k r; exact ⟨Nat.le_refl _, Nat.le_refl _⟩
  | succ d ih =>
    intro k r
    have h := ih (k + 1) (sw_ck p W P nw k r)
    have h2 : r.1 ≤ (sw_ck p W P nw k r).1 ∧ (sw_ck p W P nw k r).1 ≤ r.1 + 1 := by
      unfold sw_ck
      split
      · exact ⟨Nat.le_succ _, Nat.le_refl _⟩
      · exact ⟨Nat.le_refl _, Nat.le_succ _⟩
    unfold sw_cn
    omega
theorem sw_w_cw0 {kd la lc km kl kw kr : Int32} {a1 a2 a3 a4 a5 a6 a7 a8 a9 a10 a11 a12 a13 a14 a15 a16 a17 a18 a20 a21 a22 a23 a24 : Nat → Int32} {post : St2 → Prop} {p : Nat → sw_PP} {W P m : Int} (hW : 1 ≤ W ∧ W ≤ 8) (hPa : 1 ≤ P ∧ P ≤ 4) (hm : -1000 ≤ m ∧ m ≤ 63) (hb : ∀ j, j < 256 → sw_pb (p j)) (hP : sw_P p a8 a9 a10 a11) :
    ∀ (d : Nat) (nw : Int) (r : sw_RS) (tc ts tl tm : Int32) (a19 : Nat → Int32), -10 ≤ nw → nw ≤ 64 → 64 ≤ nw + d → r.1 + 4 * (64 - nw) ≤ 300 → sw_Rs r a19 →
    (∀ tc ts tl tm b19, sw_Rs (sw_cw p W P m d nw r).2 b19 → post (kd, sw_i W, sw_i P, la, sw_i m, lc, sw_i (sw_cw p W P m d nw r).1, nI (sw_cw p W P m d nw r).2.1, km, kl, kw, kr, tc, ts, tl, tm, a1, a2, a3, a4, a5, a6, a7, a8, a9, a10, a11, a12, a13, a14, a15, a16, a17, a18, b19, a20, a21, a22, a23, a24)) →
    wX_closeWindows_0 post (d + 1) kd (sw_i W) (sw_i P) la (sw_i m) lc (sw_i nw) (nI r.1) km kl kw kr tc ts tl tm a1 a2 a3 a4 a5 a6 a7 a8 a9 a10 a11 a12 a13 a14 a15 a16 a17 a18 a19 a20 a21 a22 a23 a24 := by
  intro d
  induction d with
  | zero =>
    intro nw r tc ts tl tm a19 h1 h2 h3 hr hR hp
    unfold wX_closeWindows_0
    exact sw_ble 64 nw rfl rfl (fun _ => hp _ _ _ _ _ hR) (fun z => absurd z (by omega))
  | succ d ih =>
    intro nw r tc ts tl tm a19 h1 h2 h3 hr hR hp
    unfold wX_closeWindows_0
    have hmul : (nw + P) * W ≤ 1000 := by
      have h5 : (nw + P) * W ≤ 68 * W := Int.mul_le_mul_of_nonneg_right (by omega) (by omega)
      omega
    have hmul0 : -1000 ≤ (nw + P) * W := by
      have h5 : (-9) * W ≤ (nw + P) * W := Int.mul_le_mul_of_nonneg_right (by omega) (by omega)
      omega
    unfold sw_cw at hp
    refine sw_ble 64 nw rfl rfl (fun z => ?_) (fun z => ?_)
    · rw [if_neg (by omega)] at hp
      exact hp _ _ _ _ _ hR
    · unfold wpX_endOf
      dsimp only
      rw [sw_add, sw_mul]
      refine sw_blt m ((nw + P) * W) rfl rfl (fun z2 => ?_) (fun z2 => ?_)
      · rw [if_neg (by omega)] at hp
        exact hp _ _ _ _ _ hR
      · rw [if_pos ⟨z, z2⟩] at hp
        refine ⟨5, ?_⟩
        refine sw_w_c26 hPa ⟨h1, h2⟩ hb hP 4 0 r _ _ _ _ _ rfl (by omega) hR (fun tc ts tl tm b19 hb19 => ?_)
        have hc := sw_cn_rc p W P nw 4 0 r
        exact ih (nw + 1) _ _ _ _ _ _ (by omega) (by omega) (by omega) (by omega) hb19 hp
theorem sw_w_cw {kd la lc km kl kw kr tc ts tl tm : Int32} {a1 a2 a3 a4 a5 a6 a7 a8 a9 a10 a11 a12 a13 a14 a15 a16 a17 a18 a19 a20 a21 a22 a23 a24 : Nat → Int32} {post : St2 → Prop} {p : Nat → sw_PP} {W P m nw : Int} {r : sw_RS} (hW : 1 ≤ W ∧ W ≤ 8) (hPa : 1 ≤ P ∧ P ≤ 4) (hm : -1000 ≤ m ∧ m ≤ 63) (hb : ∀ j, j < 256 → sw_pb (p j)) (hP : sw_P p a8 a9 a10 a11)
    (h1 : -5 ≤ nw) (h2 : nw ≤ 64) (hr : r.1 + 4 * (64 - nw) ≤ 300) (hR : sw_Rs r a19)
    (hp : ∀ tc ts tl tm b19, sw_Rs (sw_cw p W P m 70 nw r).2 b19 → post (kd, sw_i W, sw_i P, la, sw_i m, lc, sw_i (sw_cw p W P m 70 nw r).1, nI (sw_cw p W P m 70 nw r).2.1, km, kl, kw, kr, tc, ts, tl, tm, a1, a2, a3, a4, a5, a6, a7, a8, a9, a10, a11, a12, a13, a14, a15, a16, a17, a18, b19, a20, a21, a22, a23, a24)) :
    wpX_closeWindows post (kd, sw_i W, sw_i P, la, sw_i m, lc, sw_i nw, nI r.1, km, kl, kw, kr, tc, ts, tl, tm, a1, a2, a3, a4, a5, a6, a7, a8, a9, a10, a11, a12, a13, a14, a15, a16, a17, a18, a19, a20, a21, a22, a23, a24) := by
  unfold wpX_closeWindows
  exact ⟨71, sw_w_cw0 hW hPa hm hb hP 70 nw r _ _ _ _ _ (by omega) h2 (by omega) hr hR hp⟩
end
section
def sw_o : Option Nat → Int32
  | none => -1
  | some k => nI k
/-- the session that ends first, of the keys below k -/
def sw_G (W m : Int) (sn : Nat → Nat) (s : Nat → sw_SS) (k : Nat) (b : Option Nat) : Prop :=
  (∀ j, b = some j → j < k ∧ 0 < sn j ∧ (s (32 * j)).2.1 + W ≤ m ∧ ∀ i, i < k → 0 < sn i → (s (32 * i)).2.1 + W ≤ m → (s (32 * j)).2.1 ≤ (s (32 * i)).2.1) ∧
  (b = none → ∀ i, i < k → 0 < sn i → m < (s (32 * i)).2.1 + W)
theorem sw_G_s {W m : Int} {sn : Nat → Nat} {s : Nat → sw_SS} {k : Nat} {b : Option Nat} (h : sw_G W m sn s k b) : sw_G W m sn s (k + 1) (sw_nk W m sn s k b) := by
  obtain ⟨h1, h2⟩ := h
  unfold sw_nk
  by_cases hc : 0 < sn k ∧ (s (32 * k)).2.1 + W ≤ m
  · rw [if_pos hc]
    match b, h1, h2 with
    | none, h1, h2 =>
      refine ⟨fun j hj => ?_, fun z => absurd z (Option.some_ne_none k)⟩
      obtain rfl : k = j := Option.some.inj hj
      refine ⟨by omega, hc.1, hc.2, fun i hi h3 h4 => ?_⟩
      by_cases e : i = k
      · rw [e]
        exact Int.le_refl _
      · have := h2 rfl i (by omega) h3
        omega
    | some b, h1, h2 =>
      obtain ⟨g1, g2, g3, g4⟩ := h1 b rfl
      show sw_G W m sn s (k + 1) (if (s (32 * k)).2.1 < (s (32 * b)).2.1 then some k else some b)
      by_cases hd : (s (32 * k)).2.1 < (s (32 * b)).2.1
      · rw [if_pos hd]
        refine ⟨fun j hj => ?_, fun z => absurd z (Option.some_ne_none k)⟩
        obtain rfl : k = j := Option.some.inj hj
        refine ⟨by omega, hc.1, hc.2, fun i hi h3 h4 => ?_⟩
        by_cases e : i = k
        · rw [e]
          exact Int.le_refl _
        · have := g4 i (by omega) h3 h4
          omega
      · rw [if_neg hd]
        refine ⟨fun j hj => ?_, fun z => absurd z (Option.some_ne_none b)⟩
        obtain rfl : b = j := Option.some.inj hj
        refine ⟨by omega, g2, g3, fun i hi h3 h4 => ?_⟩
        by_cases e : i = k
        · rw [e]
          omega
        · exact g4 i (by omega) h3 h4
  · rw [if_neg hc]
    refine ⟨fun j hj => ?_, fun hn i hi h3 => ?_⟩
    · obtain ⟨g1, g2, g3, g4⟩ := h1 j hj
      refine ⟨by omega, g2, g3, fun i hi h3 h4 => ?_⟩
      by_cases e : i = k
      · subst e
        exact absurd ⟨h3, h4⟩ hc
      · exact g4 i (by omega) h3 h4
    · by_cases e : i = k
      · subst e
        have : ¬ (s (32 * i)).2.1 + W ≤ m := fun z => hc ⟨h3, z⟩
        omega
      · exact h2 hn i (by omega) h3
theorem sw_G_n {W m : Int} {sn : Nat → Nat} {s : Nat → sw_SS} : ∀ (d k : Nat) (b : Option Nat), sw_G W m sn s k b → sw_G W m sn s (k + d) (sw_nn4 W m sn s d k b) := by
  intro d
  induction d with
  | zero => intro k b h; exact h
  | succ d ih =>
    intro k b h
    have := ih (k + 1) _ (sw_G_s h)
    rw [show k + (d + 1) = k + 1 + d by omega]
    exact this
theorem sw_G_4 (W m : Int) (sn : Nat → Nat) (s : Nat → sw_SS) : sw_G W m sn s 4 (sw_ne W m sn s) :=
  sw_G_n 4 0 none ⟨fun j hj => absurd hj (fun z => by cases z), fun _ i hi => absurd hi (by omega)⟩
theorem sw_w_ne4 {kd pa la lc nw rc km kl kw kr tc ts tl tm : Int32} {a1 a2 a3 a4 a5 a6 a7 a8 a9 a10 a11 a12 a13 a14 a15 a16 a17 a18 a19 a20 a21 a22 a23 a24 : Nat → Int32} {post : Int32 → Prop} {sn : Nat → Nat} {s : Nat → sw_SS} {W m : Int} (hW : 1 ≤ W ∧ W ≤ 8) (hm : -1000 ≤ m ∧ m ≤ 63) (hC : sw_C sn a12) (hS : sw_S s a13 a14 a15 a16 a17 a18)
    (hn : ∀ k, k < 4 → sn k ≤ 32) (hb : ∀ k, k < 4 → 0 < sn k → sw_sb (s (32 * k))) :
    ∀ (d k : Nat) (b : Option Nat), k + d = 4 → sw_G W m sn s k b → post (sw_o (sw_nn4 W m sn s d k b)) →
    wX_nextEnding_4 post kd (sw_i W) pa la (sw_i m) lc nw rc km kl kw kr tc ts tl tm a1 a2 a3 a4 a5 a6 a7 a8 a9 a10 a11 a12 a13 a14 a15 a16 a17 a18 a19 a20 a21 a22 a23 a24 (d + 1) (sw_o b) (nI k) := by
  intro d
  induction d with
  | zero =>
    intro k b hk hG hp
    unfold wX_nextEnding_4
    exact pk_le 4 k (fun _ => hp) (fun z => absurd z (by omega))
  | succ d ih =>
    intro k b hk hG hp
    have go := ih (k + 1) _ (by omega) (sw_G_s hG) hp
    have hkn := hn k (by omega)
    have hbk := hb k (by omega)
    unfold wX_nextEnding_4
    refine pk_le 4 k (fun z => absurd z (by omega)) (fun _ => ⟨pk_in k 4 (by omega), ?_⟩)
    have no : ¬ (0 < sn k ∧ (s (32 * k)).2.1 + W ≤ m) → wX_nextEnding_43 post (wX_nextEnding_4 post kd (sw_i W) pa la (sw_i m) lc nw rc km kl kw kr tc ts tl tm a1 a2 a3 a4 a5 a6 a7 a8 a9 a10 a11 a12 a13 a14 a15 a16 a17 a18 a19 a20 a21 a22 a23 a24 (d + 1)) (sw_o b) (nI k) kd (sw_i W) pa la (sw_i m) lc nw rc km kl kw kr tc ts tl tm a1 a2 a3 a4 a5 a6 a7 a8 a9 a10 a11 a12 a13 a14 a15 a16 a17 a18 a19 a20 a21 a22 a23 a24 := by
      intro hc
      unfold sw_nk at go
      rw [if_neg hc] at go
      unfold wX_nextEnding_43
      unfold wX_nextEnding_44
      exact br_t rfl (nm_r (nI_1 k) go)
    rw [nI_clamp (show k < 2 ^ 31 by omega), hC k (by omega), sw_e32', nI_clamp (show 32 * k < 2 ^ 31 by omega)]
    refine pk_le (sn k) 0 (fun z => no (fun z2 => absurd z2.1 (by omega))) (fun z => ⟨pk_in (32 * k) 128 (by omega), ?_⟩)
    have hbk2 := hbk z
    unfold sw_sb at hbk2
    have e2 := (hS (32 * k) (by omega)).2.1
    rw [e2, sw_add]
    refine sw_blt m ((s (32 * k)).2.1 + W) rfl rfl (fun z2 => no (fun z3 => absurd z3.2 (by omega))) (fun z2 => ?_)
    unfold sw_nk at go
    rw [if_pos ⟨z, z2⟩] at go
    unfold wX_nextEnding_44
    refine br_f (by decide) ?_
    match b, hG, go with
    | none, hG, go => exact br_t (show sw_o none < 0 by decide) (nm_r (nI_1 k) go)
    | some j, hG, go =>
      obtain ⟨g1, g2, g3, g4⟩ := hG.1 j rfl
      have hbj := hb j (by omega) g2
      unfold sw_sb at hbj
      have e3 := (hS (32 * j) (by omega)).2.1
      refine br_f (show ¬ nI j < 0 from nI_pos (by omega)) ?_
      show vp_in (32 * nI k) 128 ∧ vp_in (32 * nI j) 128 ∧ ((a14 (32 * nI j).toNatClampNeg ≤ a14 (32 * nI k).toNatClampNeg → _) ∧ (¬ a14 (32 * nI j).toNatClampNeg ≤ a14 (32 * nI k).toNatClampNeg → _))
      rw [sw_e32', sw_e32', nI_clamp (show 32 * k < 2 ^ 31 by omega), nI_clamp (show 32 * j < 2 ^ 31 by omega)]
      refine ⟨pk_in (32 * k) 128 (by omega), pk_in (32 * j) 128 (by omega), ?_⟩
      refine sw_ble (s (32 * j)).2.1 (s (32 * k)).2.1 e3 e2 (fun z3 => nm_r (nI_1 k) ?_) (fun z3 => nm_r (nI_1 k) ?_)
      · have go2 : wX_nextEnding_4 post kd (sw_i W) pa la (sw_i m) lc nw rc km kl kw kr tc ts tl tm a1 a2 a3 a4 a5 a6 a7 a8 a9 a10 a11 a12 a13 a14 a15 a16 a17 a18 a19 a20 a21 a22 a23 a24 (d + 1) (sw_o (if (s (32 * k)).2.1 < (s (32 * j)).2.1 then some k else some j)) (nI (k + 1)) := go
        rw [if_neg (by omega)] at go2
        exact go2
      · have go2 : wX_nextEnding_4 post kd (sw_i W) pa la (sw_i m) lc nw rc km kl kw kr tc ts tl tm a1 a2 a3 a4 a5 a6 a7 a8 a9 a10 a11 a12 a13 a14 a15 a16 a17 a18 a19 a20 a21 a22 a23 a24 (d + 1) (sw_o (if (s (32 * k)).2.1 < (s (32 * j)).2.1 then some k else some j)) (nI (k + 1)) := go
        rw [if_pos z3] at go2
        exact go2
theorem sw_w_ne {kd pa la lc nw rc km kl kw kr tc ts tl tm : Int32} {a1 a2 a3 a4 a5 a6 a7 a8 a9 a10 a11 a12 a13 a14 a15 a16 a17 a18 a19 a20 a21 a22 a23 a24 : Nat → Int32} {post : Int32 → Prop} {sn : Nat → Nat} {s : Nat → sw_SS} {W m : Int} (hW : 1 ≤ W ∧ W ≤ 8) (hm : -1000 ≤ m ∧ m ≤ 63) (hC : sw_C sn a12) (hS : sw_S s a13 a14 a15 a16 a17 a18)
    (hn : ∀ k, k < 4 → sn k ≤ 32) (hb : ∀ k, k < 4 → 0 < sn k → sw_sb (s (32 * k))) (hp : post (sw_o (sw_ne W m sn s))) :
    wpX_nextEnding post (kd, sw_i W, pa, la, sw_i m, lc, nw, rc, km, kl, kw, kr, tc, ts, tl, tm, a1, a2, a3, a4, a5, a6, a7, a8, a9, a10, a11, a12, a13, a14, a15, a16, a17, a18, a19, a20, a21, a22, a23, a24) := by
  unfold wpX_nextEnding
  exact ⟨5, sw_w_ne4 hW hm hC hS hn hb 4 0 none rfl ⟨fun j hj => absurd hj (fun z => by cases z), fun _ i hi => absurd hi (by omega)⟩ hp⟩
/-- what holds of the sessions while some are closed -/
def sw_cb (x : sw_CS) : Prop := (∀ k, k < 4 → x.1 k ≤ 32) ∧ (∀ k, k < 4 → ∀ i, i < x.1 k → sw_sb (x.2.1 (32 * k + i)))
def sw_s4 (f : Nat → Nat) : Nat := f 0 + f 1 + f 2 + f 3
theorem sw_s4_u {f : Nat → Nat} {k n : Nat} (hk : k < 4) : sw_s4 (sw_u f k n) + f k = sw_s4 f + n := by
  unfold sw_s4 sw_u
  match k, hk with
  | 0, _ => simp; omega
  | 1, _ => simp; omega
  | 2, _ => simp; omega
  | 3, _ => simp; omega
theorem sw_cb_1 {W : Int} {k : Nat} {x : sw_CS} (hk : k < 4) (h0 : 0 < x.1 k) (h : sw_cb x) : sw_cb (sw_c1 W k x) := by
  obtain ⟨h1, h2⟩ := h
  constructor
  · intro j hj
    show sw_u x.1 k (x.1 k - 1) j ≤ 32
    by_cases e : j = k
    · subst e
      rw [sw_us]
      have := h1 j hj
      omega
    · rw [sw_un e]
      exact h1 j hj
  · intro j hj i hi
    have hi' : i < sw_u x.1 k (x.1 k - 1) j := hi
    show sw_sb (sw_dn x.2.1 (32 * k) (32 * k + (x.1 k - 1)) (32 * j + i))
    unfold sw_dn
    have hk1 := h1 k hk
    have hj1 := h1 j hj
    by_cases e : j = k
    · subst e
      rw [sw_us] at hi'
      rw [if_pos (by omega)]
      exact h2 j hj (i + 1) (by omega)
    · rw [sw_un e] at hi'
      rw [if_neg (by omega)]
      exact h2 j hj i hi'
theorem sw_w_cs5 {kd pa la lc nw km kl kw kr : Int32} {a1 a2 a3 a4 a5 a6 a7 a8 a9 a10 a11 a20 a21 a22 a23 a24 : Nat → Int32} {post : St2 → Prop} {W m : Int} (hW : 1 ≤ W ∧ W ≤ 8) (hm : -1000 ≤ m ∧ m ≤ 63) :
    ∀ (d : Nat) (x : sw_CS) (tc ts tl tm : Int32) (a12 a13 a14 a15 a16 a17 a18 a19 : Nat → Int32), sw_s4 x.1 ≤ d → sw_cb x → x.2.2.1 + sw_s4 x.1 ≤ 299 → sw_C x.1 a12 → sw_S x.2.1 a13 a14 a15 a16 a17 a18 → sw_Rs x.2.2 a19 →
    (∀ tc ts tl tm b12 b13 b14 b15 b16 b17 b18 b19, sw_C (sw_cs W m d x).1 b12 → sw_S (sw_cs W m d x).2.1 b13 b14 b15 b16 b17 b18 → sw_Rs (sw_cs W m d x).2.2 b19 →
      post (kd, sw_i W, pa, la, sw_i m, lc, nw, nI (sw_cs W m d x).2.2.1, km, kl, kw, kr, tc, ts, tl, tm, a1, a2, a3, a4, a5, a6, a7, a8, a9, a10, a11, b12, b13, b14, b15, b16, b17, b18, b19, a20, a21, a22, a23, a24)) →
    wX_closeSessions_5 post (d + 1) (sw_o (sw_ne W m x.1 x.2.1)) kd (sw_i W) pa la (sw_i m) lc nw (nI x.2.2.1) km kl kw kr tc ts tl tm a1 a2 a3 a4 a5 a6 a7 a8 a9 a10 a11 a12 a13 a14 a15 a16 a17 a18 a19 a20 a21 a22 a23 a24 := by
  intro d
  induction d with
  | zero =>
    intro x tc ts tl tm a12 a13 a14 a15 a16 a17 a18 a19 h4 hc hr hC hS hR hp
    have hG := sw_G_4 W m x.1 x.2.1
    generalize hne : sw_ne W m x.1 x.2.1 = b at hG
    match b, hG with
    | none, hG =>
      unfold wX_closeSessions_5
      exact br_t (show sw_o none < 0 by decide) (hp _ _ _ _ _ _ _ _ _ _ _ _ hC hS hR)
    | some k, hG =>
      obtain ⟨g1, g2, _⟩ := hG.1 k rfl
      have := sw_s4_u (f := x.1) (n := x.1 k - 1) g1
      omega
  | succ d ih =>
    intro x tc ts tl tm a12 a13 a14 a15 a16 a17 a18 a19 h4 hc hr hC hS hR hp
    have hG := sw_G_4 W m x.1 x.2.1
    unfold sw_cs at hp
    generalize hne : sw_ne W m x.1 x.2.1 = b at hG hp
    match b, hG, hp with
    | none, hG, hp =>
      unfold wX_closeSessions_5
      exact br_t (show sw_o none < 0 by decide) (hp _ _ _ _ _ _ _ _ _ _ _ _ hC hS hR)
    | some k, hG, hp =>
      obtain ⟨g1, g2, _⟩ := hG.1 k rfl
      have hs := sw_s4_u (f := x.1) (n := x.1 k - 1) g1
      have hk32 := hc.1 k g1
      have hv : vp_in (nI (32 * k)) 128 := pk_in (32 * k) 128 (by omega)
      obtain ⟨e1, e2, e3, e4, e5, e6⟩ := hS (32 * k) (by omega)
      have hc1 := sw_cb_1 (W := W) g1 g2 hc
      show wX_closeSessions_5 post (d + 1 + 1) (nI k) kd (sw_i W) pa la (sw_i m) lc nw (nI x.2.2.1) km kl kw kr tc ts tl tm a1 a2 a3 a4 a5 a6 a7 a8 a9 a10 a11 a12 a13 a14 a15 a16 a17 a18 a19 a20 a21 a22 a23 a24
      unfold wX_closeSessions_5
      refine br_f (nI_pos (by omega)) (nm_r (sw_e32' k) ?_)
      rw [nI_clamp (show 32 * k < 2 ^ 31 by omega)]
      refine ⟨hv, nm_r e3 ⟨hv, nm_r e4 ⟨hv, nm_r e5 ⟨hv, nm_r e6 ⟨hv, hv, ?_⟩⟩⟩⟩⟩
      rw [e1, e2, sw_add, sw_n k]
      refine sw_w_res (x := (x.2.1 (32 * k)).2.2) (by omega) hR (fun b19 hb19 => ?_)
      rw [← sw_n k]
      refine sw_w_rem g1 (hC k g1) g2 hk32 (by omega) hS (fun b13 b14 b15 b16 b17 b18 hb6 => ?_)
      refine sw_w_ne hW hm (sw_C_u hC k (x.1 k - 1)) hb6 hc1.1 (fun j hj h0 => hc1.2 j hj 0 h0) ?_
      refine ih (sw_c1 W k x) _ _ _ _ _ _ _ _ _ _ _ _ ?_ hc1 ?_ (sw_C_u hC k (x.1 k - 1)) hb6 hb19 hp
      · show sw_s4 (sw_u x.1 k (x.1 k - 1)) ≤ d
        omega
      · show x.2.2.1 + 1 + sw_s4 (sw_u x.1 k (x.1 k - 1)) ≤ 299
        omega
theorem sw_w_cs {kd pa la lc nw km kl kw kr tc ts tl tm : Int32} {a1 a2 a3 a4 a5 a6 a7 a8 a9 a10 a11 a12 a13 a14 a15 a16 a17 a18 a19 a20 a21 a22 a23 a24 : Nat → Int32} {post : St2 → Prop} {W m : Int} {x : sw_CS} (hW : 1 ≤ W ∧ W ≤ 8) (hm : -1000 ≤ m ∧ m ≤ 63) (hc : sw_cb x) (hr : x.2.2.1 + sw_s4 x.1 ≤ 299) (hC : sw_C x.1 a12) (hS : sw_S x.2.1 a13 a14 a15 a16 a17 a18) (hR : sw_Rs x.2.2 a19)
    (hp : ∀ tc ts tl tm b12 b13 b14 b15 b16 b17 b18 b19, sw_C (sw_cs W m 130 x).1 b12 → sw_S (sw_cs W m 130 x).2.1 b13 b14 b15 b16 b17 b18 → sw_Rs (sw_cs W m 130 x).2.2 b19 →
      post (kd, sw_i W, pa, la, sw_i m, lc, nw, nI (sw_cs W m 130 x).2.2.1, km, kl, kw, kr, tc, ts, tl, tm, a1, a2, a3, a4, a5, a6, a7, a8, a9, a10, a11, b12, b13, b14, b15, b16, b17, b18, b19, a20, a21, a22, a23, a24)) :
    wpX_closeSessions post (kd, sw_i W, pa, la, sw_i m, lc, nw, nI x.2.2.1, km, kl, kw, kr, tc, ts, tl, tm, a1, a2, a3, a4, a5, a6, a7, a8, a9, a10, a11, a12, a13, a14, a15, a16, a17, a18, a19, a20, a21, a22, a23, a24) := by
  unfold wpX_closeSessions
  dsimp only
  have h4 : sw_s4 x.1 ≤ 130 := by
    have h0 := hc.1 0 (by omega)
    have h1 := hc.1 1 (by omega)
    have h2 := hc.1 2 (by omega)
    have h3 := hc.1 3 (by omega)
    unfold sw_s4
    omega
  refine sw_w_ne hW hm hC hS hc.1 (fun j hj h0 => hc.2 j hj 0 h0) ⟨131, ?_⟩
  exact sw_w_cs5 hW hm 130 x _ _ _ _ _ _ _ _ _ _ _ _ h4 hc hr hC hS hR hp
end
section
def sw_bi (b : Bool) : Int32 := if b then 1 else 0
theorem sw_bi_nar (b : Bool) : vp_nar .boolean (sw_bi b) = sw_bi b := by
  cases b
  · decide
  · decide
/-- the event arrays -/
def sw_E (E : sw_EV) (a1 a2 a3 a4 : Nat → Int32) : Prop := (∀ s, s < 3 → a1 s = nI (E.1 s)) ∧ (∀ j, j < 60 → a2 j = sw_i (E.2.1 j) ∧ a3 j = nI (E.2.2.1 j) ∧ a4 j = sw_i (E.2.2.2 j))
/-- positions, greatest times, idle sources -/
def sw_Q (ps : Nat → Nat) (gt : Nat → Int) (ig : Nat → Bool) (a5 a6 a7 : Nat → Int32) : Prop := ∀ s, s < 3 → a5 s = nI (ps s) ∧ a6 s = sw_i (gt s) ∧ a7 s = sw_bi (ig s)
/-- what was kept: panes, sessions -/
def sw_K23 (p : Nat → sw_PP) (a23 : Nat → Int32) : Prop := ∀ j, j < 256 → a23 (4 * j) = sw_i (p j).1 ∧ a23 (4 * j + 1) = sw_i (p j).2.1 ∧ a23 (4 * j + 2) = sw_i (p j).2.2.1 ∧ a23 (4 * j + 3) = sw_i (p j).2.2.2
def sw_K24 (n : Nat → Nat) (s : Nat → sw_SS) (a24 : Nat → Int32) : Prop :=
  (∀ j, j < 128 → a24 (6 * j) = sw_i (s j).1 ∧ a24 (6 * j + 1) = sw_i (s j).2.1 ∧ a24 (6 * j + 2) = sw_i (s j).2.2.1 ∧ a24 (6 * j + 3) = sw_i (s j).2.2.2.1 ∧ a24 (6 * j + 4) = sw_i (s j).2.2.2.2.1 ∧ a24 (6 * j + 5) = sw_i (s j).2.2.2.2.2) ∧
  (∀ k, k < 4 → a24 (768 + k) = nI (n k))
def sw_Kp (K : sw_MM) (km kl kw kr : Int32) (a20 a21 a22 a23 a24 : Nat → Int32) : Prop :=
  km = sw_i (sw_mk K) ∧ kl = sw_i (sw_lc K) ∧ kw = sw_i (sw_nw K) ∧ kr = nI (sw_rc K) ∧ sw_Q (sw_ps K) (sw_gt K) (sw_ig K) a20 a21 a22 ∧ sw_K23 (sw_pn K) a23 ∧ sw_K24 (sw_sn K) (sw_ss K) a24
/-- the state u matches the picture M, what it keeps matches K -/
def sw_R (c : sw_C4) (E : sw_EV) (M K : sw_MM) (u : St2) : Prop := match u with
  | (kd, wd, pa, la, mq, lc, nw, rc, km, kl, kw, kr, tc, ts, tl, tm, a1, a2, a3, a4, a5, a6, a7, a8, a9, a10, a11, a12, a13, a14, a15, a16, a17, a18, a19, a20, a21, a22, a23, a24) => (kd = sw_i c.1 ∧ wd = sw_i c.2.1 ∧ pa = sw_i c.2.2.1 ∧ la = sw_i c.2.2.2) ∧ (mq = sw_i (sw_mk M) ∧ lc = sw_i (sw_lc M) ∧ nw = sw_i (sw_nw M) ∧ rc = nI (sw_rc M)) ∧
    sw_E E a1 a2 a3 a4 ∧ sw_Q (sw_ps M) (sw_gt M) (sw_ig M) a5 a6 a7 ∧ sw_P (sw_pn M) a8 a9 a10 a11 ∧ sw_C (sw_sn M) a12 ∧ sw_S (sw_ss M) a13 a14 a15 a16 a17 a18 ∧ sw_Rs (sw_rc M, sw_rr M) a19 ∧ sw_Kp K km kl kw kr a20 a21 a22 a23 a24
theorem sw_R_elim {c : sw_C4} {E : sw_EV} {M K : sw_MM} {u : St2} (h : sw_R c E M K u) {C : St2 → Prop}
    (f : ∀ (km kl kw kr tc ts tl tm : Int32) (a1 a2 a3 a4 a5 a6 a7 a8 a9 a10 a11 a12 a13 a14 a15 a16 a17 a18 a19 a20 a21 a22 a23 a24 : Nat → Int32), sw_E E a1 a2 a3 a4 → sw_Q (sw_ps M) (sw_gt M) (sw_ig M) a5 a6 a7 → sw_P (sw_pn M) a8 a9 a10 a11 → sw_C (sw_sn M) a12 → sw_S (sw_ss M) a13 a14 a15 a16 a17 a18 → sw_Rs (sw_rc M, sw_rr M) a19 → sw_Kp K km kl kw kr a20 a21 a22 a23 a24 → C (sw_i c.1, sw_i c.2.1, sw_i c.2.2.1, sw_i c.2.2.2, sw_i (sw_mk M), sw_i (sw_lc M), sw_i (sw_nw M), nI (sw_rc M), km, kl, kw, kr, tc, ts, tl, tm, a1, a2, a3, a4, a5, a6, a7, a8, a9, a10, a11, a12, a13, a14, a15, a16, a17, a18, a19, a20, a21, a22, a23, a24)) : C u := by
  obtain ⟨kd, wd, pa, la, mq, lc, nw, rc, km, kl, kw, kr, tc, ts, tl, tm, a1, a2, a3, a4, a5, a6, a7, a8, a9, a10, a11, a12, a13, a14, a15, a16, a17, a18, a19, a20, a21, a22, a23, a24⟩ := u
  obtain ⟨⟨e1, e2, e3, e4⟩, ⟨e5, e6, e7, e8⟩, hE, hQ, hP, hC, hS, hR, hK⟩ := h
  subst e1 e2 e3 e4 e5 e6 e7 e8
  exact f _ _ _ _ _ _ _ _ _ _ _ _ _ _ _ _ _ _ _ _ _ _ _ _ _ _ _ _ _ _ _ _ hE hQ hP hC hS hR hK
theorem sw_Q_u1 {ps : Nat → Nat} {gt : Nat → Int} {ig : Nat → Bool} {a5 a6 a7 : Nat → Int32} (h : sw_Q ps gt ig a5 a6 a7) (s n : Nat) (t : Int) : sw_Q (sw_u ps s n) (sw_u gt s t) ig (upd a5 s (nI n)) (upd a6 s (sw_i t)) a7 := by
  intro j hj
  by_cases e : j = s
  · subst e
    rw [sw_us, sw_us, pk_us, pk_us]
    exact ⟨rfl, rfl, (h j hj).2.2⟩
  · rw [sw_un e, sw_un e, pk_un e, pk_un e]
    exact h j hj
theorem sw_Q_u2 {ps : Nat → Nat} {gt : Nat → Int} {ig : Nat → Bool} {a5 a6 a7 : Nat → Int32} (h : sw_Q ps gt ig a5 a6 a7) (s : Nat) (b : Bool) : sw_Q ps gt (sw_u ig s b) a5 a6 (upd a7 s (sw_bi b)) := by
  intro j hj
  by_cases e : j = s
  · subst e
    rw [sw_us, pk_us]
    exact ⟨(h j hj).1, (h j hj).2.1, rfl⟩
  · rw [sw_un e, pk_un e]
    exact h j hj
/-- the parameters' bounds -/
def sw_cok (c : sw_C4) : Prop := (0 ≤ c.1 ∧ c.1 ≤ 2) ∧ (1 ≤ c.2.1 ∧ c.2.1 ≤ 8) ∧ (1 ≤ c.2.2.1 ∧ c.2.2.1 ≤ 4) ∧ (0 ≤ c.2.2.2 ∧ c.2.2.2 ≤ 20) ∧ (c.1 ≠ 1 → c.2.2.1 = 1)
/-- what the walk needs of a picture -/
def sw_wok (c : sw_C4) (M : sw_MM) : Prop :=
  (-1000 ≤ sw_mk M ∧ sw_mk M ≤ 63) ∧ (∀ s, s < 3 → -1000 ≤ sw_gt M s ∧ sw_gt M s ≤ 63) ∧
  (c.1 < 2 → (∀ j, j < 256 → sw_pb (sw_pn M j)) ∧ -5 ≤ sw_nw M ∧ sw_nw M ≤ 64 ∧ sw_rc M + 4 * (64 - sw_nw M) ≤ 300) ∧
  (¬ c.1 < 2 → sw_cb (sw_sn M, sw_ss M, sw_rc M, sw_rr M) ∧ sw_rc M + sw_s4 (sw_sn M) ≤ 299)
theorem sw_l1_in {Q : Int} {gt : Nat → Int} {ig : Nat → Bool} {s : Nat} {l : Int} (hQ : 0 ≤ Q ∧ Q ≤ 20) (hg : -1000 ≤ gt s ∧ gt s ≤ 63) (hl : -1020 ≤ l ∧ (l = 1000 ∨ l ≤ 63)) : -1020 ≤ sw_l1 Q gt ig s l ∧ (sw_l1 Q gt ig s l = 1000 ∨ sw_l1 Q gt ig s l ≤ 63) := by
  unfold sw_l1 sw_ow
  split <;> split <;> omega
theorem sw_l3_in {Q : Int} {gt : Nat → Int} {ig : Nat → Bool} (hQ : 0 ≤ Q ∧ Q ≤ 20) : ∀ (d s : Nat) (l : Int), (∀ j, s ≤ j → j < s + d → -1000 ≤ gt j ∧ gt j ≤ 63) → (-1020 ≤ l ∧ (l = 1000 ∨ l ≤ 63)) → -1020 ≤ sw_l3 Q gt ig d s l ∧ (sw_l3 Q gt ig d s l = 1000 ∨ sw_l3 Q gt ig d s l ≤ 63) := by
  intro d
  induction d with
  | zero => intro s l hg hl; exact hl
  | succ d ih =>
    intro s l hg hl
    exact ih (s + 1) _ (fun j h1 h2 => hg j (by omega) (by omega)) (sw_l1_in hQ (hg s (by omega) (by omega)) hl)
theorem sw_nm_in {Q m : Int} {gt : Nat → Int} {ig : Nat → Bool} (hQ : 0 ≤ Q ∧ Q ≤ 20) (hg : ∀ j, j < 3 → -1000 ≤ gt j ∧ gt j ≤ 63) (hm : -1000 ≤ m ∧ m ≤ 63) : -1000 ≤ sw_nm Q gt ig m ∧ sw_nm Q gt ig m ≤ 63 ∧ m ≤ sw_nm Q gt ig m := by
  have h := sw_l3_in (ig := ig) hQ 3 0 1000 (fun j _ h2 => hg j (by omega)) (by omega)
  unfold sw_nm
  split <;> omega
theorem sw_w_l6 {kd wd pa lc nw rc km kl kw kr tc ts tl tm : Int32} {a1 a2 a3 a4 a5 a6 a7 a8 a9 a10 a11 a12 a13 a14 a15 a16 a17 a18 a19 a20 a21 a22 a23 a24 : Nat → Int32} {post : Int32 → St2 → Prop} {ps : Nat → Nat} {gt : Nat → Int} {ig : Nat → Bool} {Q m : Int} (hQ0 : 0 ≤ Q ∧ Q ≤ 20) (hm : -1000 ≤ m ∧ m ≤ 63) (hg : ∀ j, j < 3 → -1000 ≤ gt j ∧ gt j ≤ 63) (hQ : sw_Q ps gt ig a5 a6 a7)
    (hp : wX_lookAtMark_91 post (sw_i (sw_nm Q gt ig m)) kd wd pa (sw_i Q) (sw_i m) lc nw rc km kl kw kr tc ts tl tm a1 a2 a3 a4 a5 a6 a7 a8 a9 a10 a11 a12 a13 a14 a15 a16 a17 a18 a19 a20 a21 a22 a23 a24) :
    ∀ (d s : Nat) (l : Int), s + d = 3 → (-1020 ≤ l ∧ (l = 1000 ∨ l ≤ 63)) → sw_l3 Q gt ig d s l = sw_l3 Q gt ig 3 0 1000 → wX_lookAtMark_6 post kd wd pa (sw_i Q) (sw_i m) lc nw rc km kl kw kr tc ts tl tm a1 a2 a3 a4 a5 a6 a7 a8 a9 a10 a11 a12 a13 a14 a15 a16 a17 a18 a19 a20 a21 a22 a23 a24 (d + 1) (sw_i l) (nI s) := by
  intro d
  induction d with
  | zero =>
    intro s l hs hl he
    unfold wX_lookAtMark_6
    have he2 : l = sw_l3 Q gt ig 3 0 1000 := he
    unfold sw_nm at hp
    rw [← he2] at hp
    refine pk_le 3 s (fun _ => ?_) (fun z => absurd z (by omega))
    refine sw_ble 1000 l rfl rfl (fun z => ?_) (fun z => ?_)
    · rw [if_neg (by omega)] at hp
      unfold wX_lookAtMark_87
      exact hp
    · refine sw_ble l m rfl rfl (fun z2 => ?_) (fun z2 => ?_)
      · rw [if_neg (by omega)] at hp
        unfold wX_lookAtMark_87
        exact hp
      · rw [if_pos ⟨z, z2⟩] at hp
        exact hp
  | succ d ih =>
    intro s l hs hl he
    obtain ⟨q1, q2, q3⟩ := hQ s (by omega)
    have hgs := hg s (by omega)
    have hl1 := sw_l1_in (Q := Q) (gt := gt) (ig := ig) (s := s) hQ0 hgs hl
    have go := ih (s + 1) (sw_l1 Q gt ig s l) (by omega) hl1 he
    have h0 : vp_in (nI s) 3 := pk_in s 3 (by omega)
    have c0 : (nI s).toNatClampNeg = s := nI_clamp (by omega)
    have k40 : ∀ z0, z0 = sw_i (sw_ow Q gt s) → wX_lookAtMark_40 post (wX_lookAtMark_6 post kd wd pa (sw_i Q) (sw_i m) lc nw rc km kl kw kr tc ts tl tm a1 a2 a3 a4 a5 a6 a7 a8 a9 a10 a11 a12 a13 a14 a15 a16 a17 a18 a19 a20 a21 a22 a23 a24 (d + 1)) (sw_i l) (nI s) z0 kd wd pa (sw_i Q) (sw_i m) lc nw rc km kl kw kr tc ts tl tm a1 a2 a3 a4 a5 a6 a7 a8 a9 a10 a11 a12 a13 a14 a15 a16 a17 a18 a19 a20 a21 a22 a23 a24 := by
      intro z0 e
      subst e
      unfold wX_lookAtMark_40
      rw [c0, q3]
      refine ⟨h0, ?_⟩
      unfold sw_l1 at go
      have how : -1020 ≤ sw_ow Q gt s ∧ sw_ow Q gt s ≤ 63 := by
        unfold sw_ow
        split <;> omega
      by_cases hi : ig s = false
      · refine br_t (by rw [hi]; rfl) ?_
        refine sw_ble l (sw_ow Q gt s) rfl rfl (fun z => nm_r (nI_1 s) ?_) (fun z => nm_r (nI_1 s) ?_)
        · rw [if_neg (by omega)] at go
          exact go
        · rw [if_pos ⟨hi, z⟩] at go
          exact go
      · have hi2 : ig s = true := by
          cases hx : ig s
          · exact absurd hx hi
          · rfl
        refine br_f (by rw [hi2]; decide) (nm_r (nI_1 s) ?_)
        rw [if_neg (fun z => hi z.1)] at go
        exact go
    unfold wX_lookAtMark_6
    rw [c0, q2]
    refine pk_le 3 s (fun z => absurd z (by omega)) (fun _ => ⟨h0, ?_⟩)
    refine sw_beq (gt s) (-1000) rfl rfl (fun z => k40 _ ?_) (fun z => ⟨h0, k40 _ ?_⟩)
    · unfold sw_ow
      rw [if_pos z]
      rfl
    · unfold sw_ow
      rw [if_neg z, sw_sub]
theorem sw_w_lk {c : sw_C4} {E : sw_EV} {M K : sw_MM} {u : St2} {post : Int32 → St2 → Prop} (hc : sw_cok c) (hw : sw_wok c M) (h : sw_R c E M K u)
    (hp : ∀ r u', sw_R c E (sw_lk c M) K u' → post r u') : wpX_lookAtMark post u := by
  revert hp
  refine sw_R_elim h (C := fun u => (∀ r u', sw_R c E (sw_lk c M) K u' → post r u') → wpX_lookAtMark post u) (fun km kl kw kr tc ts tl tm a1 a2 a3 a4 a5 a6 a7 a8 a9 a10 a11 a12 a13 a14 a15 a16 a17 a18 a19 a20 a21 a22 a23 a24 hE hQ hP hC hS hR hK => ?_)
  intro hp
  obtain ⟨c1, c2, c3, c4, c5⟩ := hc
  obtain ⟨w1, w2, w3, w4⟩ := hw
  have hm := sw_nm_in (ig := sw_ig M) c4 w2 w1
  unfold wpX_lookAtMark
  dsimp only
  refine ⟨4, sw_w_l6 c4 w1 w2 hQ ?_ 3 0 1000 rfl (by omega) rfl⟩
  unfold wX_lookAtMark_91
  unfold sw_lk sw_cl at hp
  refine sw_ble 2 c.1 rfl rfl (fun z => ?_) (fun z => ?_)
  · rw [if_neg (by omega)] at hp
    obtain ⟨v1, v2⟩ := w4 (by omega)
    refine sw_w_cs (x := (sw_sn M, sw_ss M, sw_rc M, sw_rr M)) c2 ⟨hm.1, hm.2.1⟩ v1 v2 hC hS hR (fun tc ts tl tm b12 b13 b14 b15 b16 b17 b18 b19 hC' hS' hR' => hp _ _ ?_)
    exact ⟨⟨rfl, rfl, rfl, rfl⟩, ⟨rfl, rfl, rfl, rfl⟩, hE, hQ, hP, hC', hS', hR', hK⟩
  · rw [if_pos z] at hp
    obtain ⟨v1, v2, v3, v4⟩ := w3 z
    refine sw_w_cw (r := (sw_rc M, sw_rr M)) c2 c3 ⟨hm.1, hm.2.1⟩ v1 hP v2 v3 v4 hR (fun tc ts tl tm b19 hR' => hp _ _ ?_)
    exact ⟨⟨rfl, rfl, rfl, rfl⟩, ⟨rfl, rfl, rfl, rfl⟩, hE, hQ, hP, hC, hS, hR', hK⟩
end
section
/-- the events' bounds -/
def sw_eok (E : sw_EV) : Prop := ∀ j, j < 60 → (0 ≤ E.2.1 j ∧ E.2.1 j ≤ 63) ∧ E.2.2.1 j < 4 ∧ (-50 ≤ E.2.2.2 j ∧ E.2.2.2 j ≤ 50)
/-- there is room for a session -/
def sw_room (W : Int) (sn : Nat → Nat) (s : Nat → sw_SS) (t : Int) (k : Nat) : Prop :=
  ¬ (sw_sc s W t (sn k) (32 * k) < 32 * k + sn k ∧ (s (sw_sc s W t (sn k) (32 * k))).1 - W ≤ t) → sn k < 32
/-- an event is taken in -/
def sw_t1 (c : sw_C4) (E : sw_EV) (s : Nat) (M : sw_MM) : sw_MM :=
  sw_tk c (E.2.1 (20 * s + sw_ps M s)) (E.2.2.1 (20 * s + sw_ps M s)) (E.2.2.2 (20 * s + sw_ps M s)) (sw_r0 s (E.2.1 (20 * s + sw_ps M s)) M)
theorem sw_w_r1 {c : sw_C4} {E : sw_EV} {M K : sw_MM} {u : St2} {post : Int32 → St2 → Prop} {s : Nat} (hc : sw_cok c) (hs : s < 3) (hE0 : sw_eok E) (hps : sw_ps M s < 20) (hw : sw_wok c M)
    (hroom : ¬ c.1 < 2 → sw_room c.2.1 (sw_sn M) (sw_ss M) (E.2.1 (20 * s + sw_ps M s)) (E.2.2.1 (20 * s + sw_ps M s)))
    (hw2 : sw_wok c (sw_t1 c E s M)) (h : sw_R c E M K u)
    (hp : ∀ r u', sw_R c E (sw_r1 c E s M) K u' → post r u') : wpX_readOne post u (nI s) := by
  revert hp
  refine sw_R_elim h (C := fun u => (∀ r u', sw_R c E (sw_r1 c E s M) K u' → post r u') → wpX_readOne post u (nI s)) (fun km kl kw kr tc ts tl tm a1 a2 a3 a4 a5 a6 a7 a8 a9 a10 a11 a12 a13 a14 a15 a16 a17 a18 a19 a20 a21 a22 a23 a24 hE hQ hP hC hS hR hK => ?_)
  intro hp
  obtain ⟨j, hj⟩ : ∃ j, j = 20 * s + sw_ps M s := ⟨_, rfl⟩
  have hp2 : ∀ r u', sw_R c E (sw_lk c (sw_t1 c E s M)) K u' → post r u' := hp
  unfold sw_t1 at hp2 hw2
  rw [← hj] at hp2 hw2 hroom
  have hj2 : j < 60 := by omega
  have h0 : vp_in (nI s) 3 := pk_in s 3 hs
  have h60 : vp_in (nI j) 60 := pk_in j 60 hj2
  have c0 : (nI s).toNatClampNeg = s := nI_clamp (by omega)
  have c1 : (nI j).toNatClampNeg = j := nI_clamp (by omega)
  obtain ⟨q1, q2, q3⟩ := hQ s hs
  obtain ⟨e2, e3, e4⟩ := hE.2 j hj2
  obtain ⟨b1, b2, b3⟩ := hE0 j hj2
  obtain ⟨w1, w2, w3, w4⟩ := hw
  obtain ⟨o1, o2, o3, o4, o5⟩ := hc
  have wgs := w2 s hs
  have k54 : ∀ z0, z0 = sw_i (if sw_gt M s < E.2.1 j then E.2.1 j else sw_gt M s) → wX_readOne_54 post (nI j) (sw_i (E.2.1 j)) z0 (nI s) (sw_i c.1) (sw_i c.2.1) (sw_i c.2.2.1) (sw_i c.2.2.2) (sw_i (sw_mk M)) (sw_i (sw_lc M)) (sw_i (sw_nw M)) (nI (sw_rc M)) km kl kw kr tc ts tl tm a1 a2 a3 a4 (upd a5 s (nI (sw_ps M s + 1))) a6 a7 a8 a9 a10 a11 a12 a13 a14 a15 a16 a17 a18 a19 a20 a21 a22 a23 a24 := by
    intro z0 e
    subst e
    unfold wX_readOne_54
    rw [c0, c1, e3, e4]
    refine ⟨h0, nm_e ?_⟩
    have hQ' := sw_Q_u1 hQ s (sw_ps M s + 1) (if sw_gt M s < E.2.1 j then E.2.1 j else sw_gt M s)
    refine sw_ble 2 c.1 rfl rfl (fun z => ⟨h60, h60, ?_⟩) (fun z => ⟨h60, h60, ?_⟩)
    · obtain ⟨v1, v2⟩ := w4 (by omega)
      unfold sw_tk at hp2 hw2
      rw [if_neg (by omega)] at hp2 hw2
      refine sw_w_ts (sn := sw_sn M) b2 hC (v1.1 _ b2) o2 b1 b3 w1 (fun i h1 h2 => ?_) (hroom (by omega)) hS (fun l' b12 b13 b14 b15 b16 b17 b18 el hC' hS' => ?_)
      · have := v1.2 _ b2 (i - 32 * E.2.2.1 j) (by show _ < sw_sn M _; omega)
        rw [show 32 * E.2.2.1 j + (i - 32 * E.2.2.1 j) = i by omega] at this
        exact this
      · subst el
        unfold wX_readOne_100
        refine sw_w_lk (E := E) (K := K) ⟨o1, o2, o3, o4, o5⟩ hw2 ?_ (fun r u' h' => ?_)
        · exact ⟨⟨rfl, rfl, rfl, rfl⟩, ⟨rfl, rfl, rfl, rfl⟩, hE, hQ', hP, hC', hS', hR, hK⟩
        · obtain ⟨kd, wd, pa, la, mq, lc, nw, rc, km, kl, kw, kr, tc, ts, tl, tm, a1, a2, a3, a4, a5, a6, a7, a8, a9, a10, a11, a12, a13, a14, a15, a16, a17, a18, a19, a20, a21, a22, a23, a24⟩ := u'
          exact hp2 r _ h'
    · obtain ⟨v1, v2, v3, v4⟩ := w3 z
      unfold sw_tk at hp2 hw2
      rw [if_pos z] at hp2 hw2
      refine sw_w_tp b2 o2 o3 b1 b3 w1 v1 hP (fun l' b8 b9 b10 b11 el hP' => ?_)
      subst el
      unfold wX_readOne_100
      refine sw_w_lk (E := E) (K := K) ⟨o1, o2, o3, o4, o5⟩ hw2 ?_ (fun r u' h' => ?_)
      · exact ⟨⟨rfl, rfl, rfl, rfl⟩, ⟨rfl, rfl, rfl, rfl⟩, hE, hQ', hP', hC, hS, hR, hK⟩
      · obtain ⟨kd, wd, pa, la, mq, lc, nw, rc, km, kl, kw, kr, tc, ts, tl, tm, a1, a2, a3, a4, a5, a6, a7, a8, a9, a10, a11, a12, a13, a14, a15, a16, a17, a18, a19, a20, a21, a22, a23, a24⟩ := u'
        exact hp2 r _ h'
  unfold wpX_readOne
  dsimp only
  rw [c0, q1, sw_e20, nI_1, ← hj]
  refine ⟨h0, nm_e ⟨h0, h0, nm_e ⟨h60, ?_⟩⟩⟩
  rw [c1, e2, q2]
  refine nm_e ⟨h0, ?_⟩
  refine sw_ble (E.2.1 j) (sw_gt M s) rfl rfl (fun z => ⟨h0, k54 _ ?_⟩) (fun z => k54 _ ?_)
  · rw [if_neg (by omega)]
  · rw [if_pos z]
theorem sw_w_isS {post : Int32 → Prop} {s : Nat} (hs : s < 3) (hp : post 1) : wpX_isSource post () (nI s) := by
  unfold wpX_isSource
  exact br_f (nI_pos (by omega)) (pk_le 3 s (fun z => absurd z (by omega)) (fun _ => hp))
theorem sw_w_isK {post : Int32 → Prop} {s : Nat} (hs : s < 4) (hp : post 1) : wpX_isKey post () (nI s) := by
  unfold wpX_isKey
  exact br_f (nI_pos (by omega)) (pk_le 4 s (fun z => absurd z (by omega)) (fun _ => hp))
/-- what reading needs of a picture -/
def sw_rok (c : sw_C4) (E : sw_EV) (M : sw_MM) : Prop :=
  sw_wok c M ∧ (∀ s, s < 3 → sw_ps M s ≤ E.1 s ∧ E.1 s ≤ 20) ∧
  (∀ s, s < 3 → sw_ps M s < E.1 s → (¬ c.1 < 2 → sw_room c.2.1 (sw_sn M) (sw_ss M) (E.2.1 (20 * s + sw_ps M s)) (E.2.2.1 (20 * s + sw_ps M s))) ∧ sw_wok c (sw_t1 c E s M))
theorem sw_w_rd {c : sw_C4} {E : sw_EV} {M K : sw_MM} {u : St2} {post : Int32 → St2 → Prop} {s : Nat} (hc : sw_cok c) (hs : s < 3) (hE0 : sw_eok E) (hr : sw_rok c E M) (h : sw_R c E M K u)
    (hp : ∀ r u', sw_R c E (sw_rd c E s M) K u' → post r u') : wpX_read post u (nI s) := by
  obtain ⟨r1, r2, r3⟩ := hr
  obtain ⟨p1, p2⟩ := r2 s hs
  have hu := h
  revert hp
  refine sw_R_elim h (C := fun u => sw_R c E M K u → (∀ r u', sw_R c E (sw_rd c E s M) K u' → post r u') → wpX_read post u (nI s)) (fun km kl kw kr tc ts tl tm a1 a2 a3 a4 a5 a6 a7 a8 a9 a10 a11 a12 a13 a14 a15 a16 a17 a18 a19 a20 a21 a22 a23 a24 hE hQ hP hC hS hR hK => ?_) hu
  intro hu hp
  have h0 : vp_in (nI s) 3 := pk_in s 3 hs
  have c0 : (nI s).toNatClampNeg = s := nI_clamp (by omega)
  unfold wpX_read
  dsimp only
  refine sw_w_isS hs (br_f (by decide) ?_)
  unfold wpX_unread
  dsimp only
  rw [c0, (hQ s hs).1, hE.1 s hs, pk_sub p1]
  refine ⟨h0, h0, ?_⟩
  unfold sw_rd at hp
  refine pk_eq (E.1 s - sw_ps M s) 0 (fun z => ?_) (fun z => ?_)
  · rw [if_pos (by omega)] at hp
    exact hp _ _ hu
  · rw [if_neg (by omega)] at hp
    obtain ⟨t1, t2⟩ := r3 s hs (by omega)
    refine sw_w_r1 hc hs hE0 (by omega) r1 t1 t2 hu (fun r u' h' => ?_)
    obtain ⟨kd, wd, pa, la, mq, lc, nw, rc, km, kl, kw, kr, tc, ts, tl, tm, a1, a2, a3, a4, a5, a6, a7, a8, a9, a10, a11, a12, a13, a14, a15, a16, a17, a18, a19, a20, a21, a22, a23, a24⟩ := u'
    exact hp r _ h'
theorem sw_w_id {c : sw_C4} {E : sw_EV} {M K : sw_MM} {u : St2} {post : Int32 → St2 → Prop} {s : Nat} {b : Bool} (hc : sw_cok c) (hs : s < 3) (hw : sw_wok c M) (h : sw_R c E M K u)
    (hp : ∀ r u', sw_R c E (sw_id c s b M) K u' → post r u') : wpX_idle post u (nI s) (sw_bi b) := by
  revert hp
  refine sw_R_elim h (C := fun u => (∀ r u', sw_R c E (sw_id c s b M) K u' → post r u') → wpX_idle post u (nI s) (sw_bi b)) (fun km kl kw kr tc ts tl tm a1 a2 a3 a4 a5 a6 a7 a8 a9 a10 a11 a12 a13 a14 a15 a16 a17 a18 a19 a20 a21 a22 a23 a24 hE hQ hP hC hS hR hK => ?_)
  intro hp
  have h0 : vp_in (nI s) 3 := pk_in s 3 hs
  have c0 : (nI s).toNatClampNeg = s := nI_clamp (by omega)
  unfold wpX_idle
  dsimp only
  rw [c0, sw_bi_nar]
  refine sw_w_isS hs (br_f (by decide) ⟨h0, nm_e ?_⟩)
  refine sw_w_lk (E := E) (K := K) (M := ((sw_mk M, sw_lc M, sw_nw M), (sw_ps M, sw_gt M, sw_u (sw_ig M) s b), sw_pn M, (sw_sn M, sw_ss M), (sw_rc M, sw_rr M))) hc hw ?_ (fun r u' h' => ?_)
  · exact ⟨⟨rfl, rfl, rfl, rfl⟩, ⟨rfl, rfl, rfl, rfl⟩, hE, sw_Q_u2 hQ s b, hP, hC, hS, hR, hK⟩
  · obtain ⟨kd, wd, pa, la, mq, lc, nw, rc, km, kl, kw, kr, tc, ts, tl, tm, a1, a2, a3, a4, a5, a6, a7, a8, a9, a10, a11, a12, a13, a14, a15, a16, a17, a18, a19, a20, a21, a22, a23, a24⟩ := u'
    exact hp r _ h'
/-- the call that a cell picks: its kind, its source -/
def sw_kx (x : Int32) : Nat := (x &&& 7).toNatClampNeg
def sw_sx (x : Int32) : Nat := (((x >>> ((3 : Int32) &&& 31)) &&& 255) - ((x >>> ((3 : Int32) &&& 31)) &&& 255) / 3 * 3).toNatClampNeg
theorem sw_kx_e (x : Int32) : x &&& 7 = nI (sw_kx x) ∧ sw_kx x < 8 := by
  obtain ⟨j, hj, e⟩ := pk_andE x (m := 7) 3 (by decide)
  unfold sw_kx
  rw [e, nI_clamp (by omega)]
  exact ⟨rfl, hj⟩
theorem sw_sx_e (x : Int32) : (((x >>> ((3 : Int32) &&& 31)) &&& 255) - ((x >>> ((3 : Int32) &&& 31)) &&& 255) / 3 * 3) = nI (sw_sx x) ∧ sw_sx x < 3 := by
  obtain ⟨j, hj, e⟩ := pk_andE (x >>> ((3 : Int32) &&& 31)) (m := 255) 8 (by decide)
  have e2 : nI j - nI j / 3 * 3 = nI (j % 3) := pk_rem (d := 3) (by omega) (by omega) (by omega)
  unfold sw_sx
  rw [e, e2, nI_clamp (by omega)]
  exact ⟨rfl, by omega⟩
def sw_turn (c : sw_C4) (E : sw_EV) (x : Int32) (M : sw_MM) : sw_MM :=
  if 6 ≤ sw_kx x then sw_id c (sw_sx x) (decide (sw_kx x = 6)) M else sw_rd c E (sw_sx x) M
theorem sw_w_turn {c : sw_C4} {E : sw_EV} {M K : sw_MM} {u : St2} {post : Int32 → St2 → Prop} {x : Int32} (hc : sw_cok c) (hE0 : sw_eok E) (hr : sw_rok c E M) (h : sw_R c E M K u)
    (hp : ∀ r u', sw_R c E (sw_turn c E x M) K u' → post r u') : wpL_turn post u x := by
  obtain ⟨k1, k2⟩ := sw_kx_e x
  obtain ⟨s1, s2⟩ := sw_sx_e x
  obtain ⟨kd, wd, pa, la, mq, lc, nw, rc, km, kl, kw, kr, tc, ts, tl, tm, a1, a2, a3, a4, a5, a6, a7, a8, a9, a10, a11, a12, a13, a14, a15, a16, a17, a18, a19, a20, a21, a22, a23, a24⟩ := u
  unfold wpL_turn
  dsimp only
  rw [s1, k1]
  refine nm_e ?_
  unfold sw_turn at hp
  refine pk_le 6 (sw_kx x) (fun z => ⟨by decide, ?_⟩) (fun z => ⟨by decide, ?_⟩)
  · rw [if_pos z] at hp
    refine pk_eq (sw_kx x) 6 (fun z2 => ?_) (fun z2 => ?_)
    · rw [decide_eq_true z2] at hp
      unfold wL_turn_48
      refine sw_w_id (b := true) hc s2 hr.1 h (fun r u' h' => ?_)
      obtain ⟨kd, wd, pa, la, mq, lc, nw, rc, km, kl, kw, kr, tc, ts, tl, tm, a1, a2, a3, a4, a5, a6, a7, a8, a9, a10, a11, a12, a13, a14, a15, a16, a17, a18, a19, a20, a21, a22, a23, a24⟩ := u'
      exact hp r _ h'
    · rw [decide_eq_false z2] at hp
      unfold wL_turn_48
      refine sw_w_id (b := false) hc s2 hr.1 h (fun r u' h' => ?_)
      obtain ⟨kd, wd, pa, la, mq, lc, nw, rc, km, kl, kw, kr, tc, ts, tl, tm, a1, a2, a3, a4, a5, a6, a7, a8, a9, a10, a11, a12, a13, a14, a15, a16, a17, a18, a19, a20, a21, a22, a23, a24⟩ := u'
      exact hp r _ h'
  · rw [if_neg (by omega)] at hp
    refine sw_w_rd hc s2 hE0 hr h (fun r u' h' => ?_)
    obtain ⟨kd, wd, pa, la, mq, lc, nw, rc, km, kl, kw, kr, tc, ts, tl, tm, a1, a2, a3, a4, a5, a6, a7, a8, a9, a10, a11, a12, a13, a14, a15, a16, a17, a18, a19, a20, a21, a22, a23, a24⟩ := u'
    exact hp r _ h'
end
section
theorem sw_K4u {b : Nat → Int32} {i : Nat} {x1 x2 x3 x4 : Int32} :
    (upd (upd (upd (upd b (4 * i) x1) (4 * i + 1) x2) (4 * i + 2) x3) (4 * i + 3) x4) (4 * i) = x1 ∧
    (upd (upd (upd (upd b (4 * i) x1) (4 * i + 1) x2) (4 * i + 2) x3) (4 * i + 3) x4) (4 * i + 1) = x2 ∧
    (upd (upd (upd (upd b (4 * i) x1) (4 * i + 1) x2) (4 * i + 2) x3) (4 * i + 3) x4) (4 * i + 2) = x3 ∧
    (upd (upd (upd (upd b (4 * i) x1) (4 * i + 1) x2) (4 * i + 2) x3) (4 * i + 3) x4) (4 * i + 3) = x4 ∧
    ∀ j, j < 4 * i → (upd (upd (upd (upd b (4 * i) x1) (4 * i + 1) x2) (4 * i + 2) x3) (4 * i + 3) x4) j = b j := by
  refine ⟨?_, ?_, ?_, ?_, ?_⟩
  · rw [pk_un (by omega), pk_un (by omega), pk_un (by omega), pk_us]
  · rw [pk_un (by omega), pk_un (by omega), pk_us]
  · rw [pk_un (by omega), pk_us]
  · rw [pk_us]
  · intro j hj
    rw [pk_un (by omega), pk_un (by omega), pk_un (by omega), pk_un (by omega)]
theorem sw_K6u {b : Nat → Int32} {i : Nat} {x1 x2 x3 x4 x5 x6 : Int32} :
    (upd (upd (upd (upd (upd (upd b (6 * i) x1) (6 * i + 1) x2) (6 * i + 2) x3) (6 * i + 3) x4) (6 * i + 4) x5) (6 * i + 5) x6) (6 * i) = x1 ∧
    (upd (upd (upd (upd (upd (upd b (6 * i) x1) (6 * i + 1) x2) (6 * i + 2) x3) (6 * i + 3) x4) (6 * i + 4) x5) (6 * i + 5) x6) (6 * i + 1) = x2 ∧
    (upd (upd (upd (upd (upd (upd b (6 * i) x1) (6 * i + 1) x2) (6 * i + 2) x3) (6 * i + 3) x4) (6 * i + 4) x5) (6 * i + 5) x6) (6 * i + 2) = x3 ∧
    (upd (upd (upd (upd (upd (upd b (6 * i) x1) (6 * i + 1) x2) (6 * i + 2) x3) (6 * i + 3) x4) (6 * i + 4) x5) (6 * i + 5) x6) (6 * i + 3) = x4 ∧
    (upd (upd (upd (upd (upd (upd b (6 * i) x1) (6 * i + 1) x2) (6 * i + 2) x3) (6 * i + 3) x4) (6 * i + 4) x5) (6 * i + 5) x6) (6 * i + 4) = x5 ∧
    (upd (upd (upd (upd (upd (upd b (6 * i) x1) (6 * i + 1) x2) (6 * i + 2) x3) (6 * i + 3) x4) (6 * i + 4) x5) (6 * i + 5) x6) (6 * i + 5) = x6 ∧
    ∀ j, j < 6 * i → (upd (upd (upd (upd (upd (upd b (6 * i) x1) (6 * i + 1) x2) (6 * i + 2) x3) (6 * i + 3) x4) (6 * i + 4) x5) (6 * i + 5) x6) j = b j := by
  refine ⟨?_, ?_, ?_, ?_, ?_, ?_, ?_⟩
  · rw [pk_un (by omega), pk_un (by omega), pk_un (by omega), pk_un (by omega), pk_un (by omega), pk_us]
  · rw [pk_un (by omega), pk_un (by omega), pk_un (by omega), pk_un (by omega), pk_us]
  · rw [pk_un (by omega), pk_un (by omega), pk_un (by omega), pk_us]
  · rw [pk_un (by omega), pk_un (by omega), pk_us]
  · rw [pk_un (by omega), pk_us]
  · rw [pk_us]
  · intro j hj
    rw [pk_un (by omega), pk_un (by omega), pk_un (by omega), pk_un (by omega), pk_un (by omega), pk_un (by omega)]
theorem sw_e4 (i c : Nat) : (4 : Int32) * nI i + nI c = nI (4 * i + c) := by
  show nI 4 * nI i + nI c = _
  rw [pk_mul, nI_add]
theorem sw_e4' (i : Nat) : (4 : Int32) * nI i = nI (4 * i) := by
  show nI 4 * nI i = _
  rw [pk_mul]
theorem sw_e6 (i c : Nat) : (6 : Int32) * nI i + nI c = nI (6 * i + c) := by
  show nI 6 * nI i + nI c = _
  rw [pk_mul, nI_add]
theorem sw_e6' (i : Nat) : (6 : Int32) * nI i = nI (6 * i) := by
  show nI 6 * nI i = _
  rw [pk_mul]
theorem sw_e768 (i : Nat) : (768 : Int32) + nI i = nI (768 + i) := by
  show nI 768 + nI i = _
  rw [nI_add]
/-- the sessions that were kept, n of them -/
def sw_K24a (s : Nat → sw_SS) (n : Nat) (a24 : Nat → Int32) : Prop :=
  ∀ j, j < n → a24 (6 * j) = sw_i (s j).1 ∧ a24 (6 * j + 1) = sw_i (s j).2.1 ∧ a24 (6 * j + 2) = sw_i (s j).2.2.1 ∧ a24 (6 * j + 3) = sw_i (s j).2.2.2.1 ∧ a24 (6 * j + 4) = sw_i (s j).2.2.2.2.1 ∧ a24 (6 * j + 5) = sw_i (s j).2.2.2.2.2
theorem sw_w_k275 {kd wd pa la mq lc nw rc km kl kw kr tc ts tl tm : Int32} {a1 a2 a3 a4 a5 a6 a7 a8 a9 a10 a11 a12 a13 a14 a15 a16 a17 a18 a19 a20 a21 a22 a23 a24 : Nat → Int32} {post : Int32 → St2 → Prop} {n : Nat → Nat} {s : Nat → sw_SS} (hC : sw_C n a12) (h24 : sw_K24a s 128 a24) (hp : ∀ b24, sw_K24 n s b24 → post kr (kd, wd, pa, la, mq, lc, nw, rc, km, kl, kw, kr, tc, ts, tl, tm, a1, a2, a3, a4, a5, a6, a7, a8, a9, a10, a11, a12, a13, a14, a15, a16, a17, a18, a19, a20, a21, a22, a23, b24)) :
    ∃ fu, wX_keep_275 post kd wd pa la mq lc nw rc km kl kw kr tc ts tl tm fu 0 a1 a2 a3 a4 a5 a6 a7 a8 a9 a10 a11 a12 a13 a14 a15 a16 a17 a18 a19 a20 a21 a22 a23 a24 := by
  refine pk_loop (fun f i b => wX_keep_275 post kd wd pa la mq lc nw rc km kl kw kr tc ts tl tm f (nI i) a1 a2 a3 a4 a5 a6 a7 a8 a9 a10 a11 a12 a13 a14 a15 a16 a17 a18 a19 a20 a21 a22 a23 b) (fun i b => sw_K24a s 128 b ∧ ∀ k, k < i → b (768 + k) = nI (n k)) 4 0 a24 (by omega) ⟨h24, fun k hk => absurd hk (by omega)⟩ ?_ ?_
  · intro f b h
    show wX_keep_275 post kd wd pa la mq lc nw rc km kl kw kr tc ts tl tm (f + 1) (nI 4) a1 a2 a3 a4 a5 a6 a7 a8 a9 a10 a11 a12 a13 a14 a15 a16 a17 a18 a19 a20 a21 a22 a23 b
    unfold wX_keep_275
    exact pk_le 4 4 (fun _ => hp b h) (fun z => absurd z (by omega))
  · intro f i b hi h hw
    show wX_keep_275 post kd wd pa la mq lc nw rc km kl kw kr tc ts tl tm (f + 1) (nI i) a1 a2 a3 a4 a5 a6 a7 a8 a9 a10 a11 a12 a13 a14 a15 a16 a17 a18 a19 a20 a21 a22 a23 b
    unfold wX_keep_275
    rw [sw_e768, nI_clamp (show i < 2 ^ 31 by omega), nI_clamp (show 768 + i < 2 ^ 31 by omega), hC i hi]
    refine pk_le 4 i (fun z => absurd z (by omega)) (fun _ => ⟨pk_in i 4 hi, pk_in (768 + i) 772 (by omega), nm_e (nm_r (nI_1 i) (hw _ ⟨?_, ?_⟩))⟩)
    · intro j hj
      rw [pk_un (by omega), pk_un (by omega), pk_un (by omega), pk_un (by omega), pk_un (by omega), pk_un (by omega)]
      exact h.1 j hj
    · intro k hk
      by_cases e : k = i
      · rw [e, pk_us]
      · rw [pk_un (by omega)]
        exact h.2 k (by omega)
theorem sw_w_k160 {kd wd pa la mq lc nw rc km kl kw kr tc ts tl tm : Int32} {a1 a2 a3 a4 a5 a6 a7 a8 a9 a10 a11 a12 a13 a14 a15 a16 a17 a18 a19 a20 a21 a22 a23 a24 : Nat → Int32} {post : Int32 → St2 → Prop} {n : Nat → Nat} {s : Nat → sw_SS} (hC : sw_C n a12) (hS : sw_S s a13 a14 a15 a16 a17 a18) (hp : ∀ b24, sw_K24 n s b24 → post kr (kd, wd, pa, la, mq, lc, nw, rc, km, kl, kw, kr, tc, ts, tl, tm, a1, a2, a3, a4, a5, a6, a7, a8, a9, a10, a11, a12, a13, a14, a15, a16, a17, a18, a19, a20, a21, a22, a23, b24)) :
    ∃ fu, wX_keep_160 post kd wd pa la mq lc nw rc km kl kw kr tc ts tl tm fu 0 a1 a2 a3 a4 a5 a6 a7 a8 a9 a10 a11 a12 a13 a14 a15 a16 a17 a18 a19 a20 a21 a22 a23 a24 := by
  refine pk_loop (fun f i b => wX_keep_160 post kd wd pa la mq lc nw rc km kl kw kr tc ts tl tm f (nI i) a1 a2 a3 a4 a5 a6 a7 a8 a9 a10 a11 a12 a13 a14 a15 a16 a17 a18 a19 a20 a21 a22 a23 b) (fun i b => sw_K24a s i b) 128 0 a24 (by omega) (fun k hk => absurd hk (by omega)) ?_ ?_
  · intro f b h
    show wX_keep_160 post kd wd pa la mq lc nw rc km kl kw kr tc ts tl tm (f + 1) (nI 128) a1 a2 a3 a4 a5 a6 a7 a8 a9 a10 a11 a12 a13 a14 a15 a16 a17 a18 a19 a20 a21 a22 a23 b
    unfold wX_keep_160
    exact pk_le 128 128 (fun _ => sw_w_k275 hC h hp) (fun z => absurd z (by omega))
  · intro f i b hi h hw
    show wX_keep_160 post kd wd pa la mq lc nw rc km kl kw kr tc ts tl tm (f + 1) (nI i) a1 a2 a3 a4 a5 a6 a7 a8 a9 a10 a11 a12 a13 a14 a15 a16 a17 a18 a19 a20 a21 a22 a23 b
    obtain ⟨e1, e2, e3, e4, e5, e6⟩ := hS i hi
    have f1 : (6 : Int32) * nI i + 1 = nI (6 * i + 1) := sw_e6 i 1
    have f2 : (6 : Int32) * nI i + 2 = nI (6 * i + 2) := sw_e6 i 2
    have f3 : (6 : Int32) * nI i + 3 = nI (6 * i + 3) := sw_e6 i 3
    have f4 : (6 : Int32) * nI i + 4 = nI (6 * i + 4) := sw_e6 i 4
    have f5 : (6 : Int32) * nI i + 5 = nI (6 * i + 5) := sw_e6 i 5
    unfold wX_keep_160
    rw [f1, f2, f3, f4, f5, sw_e6', nI_clamp (show i < 2 ^ 31 by omega), nI_clamp (show 6 * i < 2 ^ 31 by omega), nI_clamp (show 6 * i + 1 < 2 ^ 31 by omega), nI_clamp (show 6 * i + 2 < 2 ^ 31 by omega), nI_clamp (show 6 * i + 3 < 2 ^ 31 by omega), nI_clamp (show 6 * i + 4 < 2 ^ 31 by omega), nI_clamp (show 6 * i + 5 < 2 ^ 31 by omega)]
    have h0 : vp_in (nI i) 128 := pk_in i 128 hi
    refine pk_le 128 i (fun z => absurd z (by omega)) (fun _ => ⟨h0, pk_in (6 * i) 772 (by omega), nm_e ⟨h0, pk_in (6 * i + 1) 772 (by omega), nm_e ⟨h0, pk_in (6 * i + 2) 772 (by omega), nm_e ⟨h0, pk_in (6 * i + 3) 772 (by omega), nm_e ⟨h0, pk_in (6 * i + 4) 772 (by omega), nm_e ⟨h0, pk_in (6 * i + 5) 772 (by omega), nm_e (nm_r (nI_1 i) (hw _ ?_))⟩⟩⟩⟩⟩⟩)
    obtain ⟨g1, g2, g3, g4, g5, g6, g7⟩ := sw_K6u (b := b) (i := i) (x1 := a13 i) (x2 := a14 i) (x3 := a15 i) (x4 := a16 i) (x5 := a17 i) (x6 := a18 i)
    intro j hj
    by_cases e : j = i
    · subst e
      exact ⟨g1.trans e1, g2.trans e2, g3.trans e3, g4.trans e4, g5.trans e5, g6.trans e6⟩
    · rw [g7 _ (by omega), g7 _ (by omega), g7 _ (by omega), g7 _ (by omega), g7 _ (by omega), g7 _ (by omega)]
      exact h j (by omega)
theorem sw_w_k83 {kd wd pa la mq lc nw rc km kl kw kr tc ts tl tm : Int32} {a1 a2 a3 a4 a5 a6 a7 a8 a9 a10 a11 a12 a13 a14 a15 a16 a17 a18 a19 a20 a21 a22 a23 a24 : Nat → Int32} {post : Int32 → St2 → Prop} {n : Nat → Nat} {s : Nat → sw_SS} {p : Nat → sw_PP} (hP : sw_P p a8 a9 a10 a11) (hC : sw_C n a12) (hS : sw_S s a13 a14 a15 a16 a17 a18) (hp : ∀ b23 b24, sw_K23 p b23 → sw_K24 n s b24 → post kr (kd, wd, pa, la, mq, lc, nw, rc, km, kl, kw, kr, tc, ts, tl, tm, a1, a2, a3, a4, a5, a6, a7, a8, a9, a10, a11, a12, a13, a14, a15, a16, a17, a18, a19, a20, a21, a22, b23, b24)) :
    ∃ fu, wX_keep_83 post kd wd pa la mq lc nw rc km kl kw kr tc ts tl tm fu 0 a1 a2 a3 a4 a5 a6 a7 a8 a9 a10 a11 a12 a13 a14 a15 a16 a17 a18 a19 a20 a21 a22 a23 a24 := by
  refine pk_loop (fun f i b => wX_keep_83 post kd wd pa la mq lc nw rc km kl kw kr tc ts tl tm f (nI i) a1 a2 a3 a4 a5 a6 a7 a8 a9 a10 a11 a12 a13 a14 a15 a16 a17 a18 a19 a20 a21 a22 b a24) (fun i b => ∀ j, j < i → b (4 * j) = sw_i (p j).1 ∧ b (4 * j + 1) = sw_i (p j).2.1 ∧ b (4 * j + 2) = sw_i (p j).2.2.1 ∧ b (4 * j + 3) = sw_i (p j).2.2.2) 256 0 a23 (by omega) (fun k hk => absurd hk (by omega)) ?_ ?_
  · intro f b h
    show wX_keep_83 post kd wd pa la mq lc nw rc km kl kw kr tc ts tl tm (f + 1) (nI 256) a1 a2 a3 a4 a5 a6 a7 a8 a9 a10 a11 a12 a13 a14 a15 a16 a17 a18 a19 a20 a21 a22 b a24
    unfold wX_keep_83
    exact pk_le 256 256 (fun _ => sw_w_k160 hC hS (fun b24 hb => hp b b24 h hb)) (fun z => absurd z (by omega))
  · intro f i b hi h hw
    show wX_keep_83 post kd wd pa la mq lc nw rc km kl kw kr tc ts tl tm (f + 1) (nI i) a1 a2 a3 a4 a5 a6 a7 a8 a9 a10 a11 a12 a13 a14 a15 a16 a17 a18 a19 a20 a21 a22 b a24
    obtain ⟨e1, e2, e3, e4⟩ := hP i hi
    have f1 : (4 : Int32) * nI i + 1 = nI (4 * i + 1) := sw_e4 i 1
    have f2 : (4 : Int32) * nI i + 2 = nI (4 * i + 2) := sw_e4 i 2
    have f3 : (4 : Int32) * nI i + 3 = nI (4 * i + 3) := sw_e4 i 3
    unfold wX_keep_83
    rw [f1, f2, f3, sw_e4', nI_clamp (show i < 2 ^ 31 by omega), nI_clamp (show 4 * i < 2 ^ 31 by omega), nI_clamp (show 4 * i + 1 < 2 ^ 31 by omega), nI_clamp (show 4 * i + 2 < 2 ^ 31 by omega), nI_clamp (show 4 * i + 3 < 2 ^ 31 by omega)]
    have h0 : vp_in (nI i) 256 := pk_in i 256 hi
    refine pk_le 256 i (fun z => absurd z (by omega)) (fun _ => ⟨h0, pk_in (4 * i) 1024 (by omega), nm_e ⟨h0, pk_in (4 * i + 1) 1024 (by omega), nm_e ⟨h0, pk_in (4 * i + 2) 1024 (by omega), nm_e ⟨h0, pk_in (4 * i + 3) 1024 (by omega), nm_e (nm_r (nI_1 i) (hw _ ?_))⟩⟩⟩⟩)
    obtain ⟨g1, g2, g3, g4, g7⟩ := sw_K4u (b := b) (i := i) (x1 := a8 i) (x2 := a9 i) (x3 := a10 i) (x4 := a11 i)
    intro j hj
    by_cases e : j = i
    · subst e
      exact ⟨g1.trans e1, g2.trans e2, g3.trans e3, g4.trans e4⟩
    · rw [g7 _ (by omega), g7 _ (by omega), g7 _ (by omega), g7 _ (by omega)]
      exact h j (by omega)
theorem sw_w_keep {c : sw_C4} {E : sw_EV} {M K : sw_MM} {u : St2} {post : Int32 → St2 → Prop} (h : sw_R c E M K u) (hp : ∀ r u', sw_R c E M M u' → post r u') : wpX_keep post u := by
  revert hp
  refine sw_R_elim h (C := fun u => (∀ r u', sw_R c E M M u' → post r u') → wpX_keep post u) (fun km kl kw kr tc ts tl tm a1 a2 a3 a4 a5 a6 a7 a8 a9 a10 a11 a12 a13 a14 a15 a16 a17 a18 a19 a20 a21 a22 a23 a24 hE hQ hP hC hS hR hK => ?_)
  intro hp
  unfold wpX_keep
  dsimp only
  refine pk_loop (fun f i (b : (Nat → Int32) × (Nat → Int32) × (Nat → Int32)) => wX_keep_2 post (sw_i c.1) (sw_i c.2.1) (sw_i c.2.2.1) (sw_i c.2.2.2) (sw_i (sw_mk M)) (sw_i (sw_lc M)) (sw_i (sw_nw M)) (nI (sw_rc M)) km kl kw kr tc ts tl tm f (nI i) a1 a2 a3 a4 a5 a6 a7 a8 a9 a10 a11 a12 a13 a14 a15 a16 a17 a18 a19 b.1 b.2.1 b.2.2 a23 a24)
    (fun i b => ∀ j, j < i → b.1 j = nI (sw_ps M j) ∧ b.2.1 j = sw_i (sw_gt M j) ∧ b.2.2 j = sw_bi (sw_ig M j)) 3 0 (a20, a21, a22) (by omega) (fun k hk => absurd hk (by omega)) ?_ ?_
  · intro f b hb
    obtain ⟨b20, b21, b22⟩ := b
    show wX_keep_2 post (sw_i c.1) (sw_i c.2.1) (sw_i c.2.2.1) (sw_i c.2.2.2) (sw_i (sw_mk M)) (sw_i (sw_lc M)) (sw_i (sw_nw M)) (nI (sw_rc M)) km kl kw kr tc ts tl tm (f + 1) (nI 3) a1 a2 a3 a4 a5 a6 a7 a8 a9 a10 a11 a12 a13 a14 a15 a16 a17 a18 a19 b20 b21 b22 a23 a24
    unfold wX_keep_2
    refine pk_le 3 3 (fun _ => ?_) (fun z => absurd z (by omega))
    refine sw_w_k83 hP hC hS (fun b23 b24 h23 h24 => hp _ _ ?_)
    exact ⟨⟨rfl, rfl, rfl, rfl⟩, ⟨rfl, rfl, rfl, rfl⟩, hE, hQ, hP, hC, hS, hR, ⟨rfl, rfl, rfl, rfl, hb, h23, h24⟩⟩
  · intro f i b hi hb hw
    obtain ⟨b20, b21, b22⟩ := b
    show wX_keep_2 post (sw_i c.1) (sw_i c.2.1) (sw_i c.2.2.1) (sw_i c.2.2.2) (sw_i (sw_mk M)) (sw_i (sw_lc M)) (sw_i (sw_nw M)) (nI (sw_rc M)) km kl kw kr tc ts tl tm (f + 1) (nI i) a1 a2 a3 a4 a5 a6 a7 a8 a9 a10 a11 a12 a13 a14 a15 a16 a17 a18 a19 b20 b21 b22 a23 a24
    obtain ⟨q1, q2, q3⟩ := hQ i hi
    unfold wX_keep_2
    rw [nI_clamp (show i < 2 ^ 31 by omega), q1, q2, q3, sw_bi_nar]
    have h0 : vp_in (nI i) 3 := pk_in i 3 hi
    refine pk_le 3 i (fun z => absurd z (by omega)) (fun _ => ⟨h0, h0, nm_e ⟨h0, h0, nm_e ⟨h0, h0, nm_e (nm_r (nI_1 i) (hw (_, _, _) ?_))⟩⟩⟩)
    intro j hj
    show upd b20 i (nI (sw_ps M i)) j = _ ∧ upd b21 i (sw_i (sw_gt M i)) j = _ ∧ upd b22 i (sw_bi (sw_ig M i)) j = _
    by_cases e : j = i
    · subst e
      rw [pk_us, pk_us, pk_us]
      exact ⟨rfl, rfl, rfl⟩
    · rw [pk_un e, pk_un e, pk_un e]
      exact hb j (by omega)
theorem sw_w_x275 {kd wd pa la mq lc nw rc km kl kw kr tc ts tl tm : Int32} {a1 a2 a3 a4 a5 a6 a7 a8 a9 a10 a11 a12 a13 a14 a15 a16 a17 a18 a19 a20 a21 a22 a23 a24 : Nat → Int32} {post : Int32 → St2 → Prop} {n : Nat → Nat} (h24 : ∀ k, k < 4 → a24 (768 + k) = nI (n k)) (hp : ∀ b12, sw_C n b12 → post rc (kd, wd, pa, la, mq, lc, nw, rc, km, kl, kw, kr, tc, ts, tl, tm, a1, a2, a3, a4, a5, a6, a7, a8, a9, a10, a11, b12, a13, a14, a15, a16, a17, a18, a19, a20, a21, a22, a23, a24)) :
    ∃ fu, wX_crash_275 post kd wd pa la mq lc nw rc km kl kw kr tc ts tl tm fu 0 a1 a2 a3 a4 a5 a6 a7 a8 a9 a10 a11 a12 a13 a14 a15 a16 a17 a18 a19 a20 a21 a22 a23 a24 := by
  refine pk_loop (fun f i b => wX_crash_275 post kd wd pa la mq lc nw rc km kl kw kr tc ts tl tm f (nI i) a1 a2 a3 a4 a5 a6 a7 a8 a9 a10 a11 b a13 a14 a15 a16 a17 a18 a19 a20 a21 a22 a23 a24) (fun i b => ∀ k, k < i → b k = nI (n k)) 4 0 a12 (by omega) (fun k hk => absurd hk (by omega)) ?_ ?_
  · intro f b h
    show wX_crash_275 post kd wd pa la mq lc nw rc km kl kw kr tc ts tl tm (f + 1) (nI 4) a1 a2 a3 a4 a5 a6 a7 a8 a9 a10 a11 b a13 a14 a15 a16 a17 a18 a19 a20 a21 a22 a23 a24
    unfold wX_crash_275
    exact pk_le 4 4 (fun _ => hp b h) (fun z => absurd z (by omega))
  · intro f i b hi h hw
    show wX_crash_275 post kd wd pa la mq lc nw rc km kl kw kr tc ts tl tm (f + 1) (nI i) a1 a2 a3 a4 a5 a6 a7 a8 a9 a10 a11 b a13 a14 a15 a16 a17 a18 a19 a20 a21 a22 a23 a24
    unfold wX_crash_275
    rw [sw_e768, nI_clamp (show i < 2 ^ 31 by omega), nI_clamp (show 768 + i < 2 ^ 31 by omega), h24 i hi]
    refine pk_le 4 i (fun z => absurd z (by omega)) (fun _ => ⟨pk_in (768 + i) 772 (by omega), pk_in i 4 hi, nm_e (nm_r (nI_1 i) (hw _ ?_))⟩)
    intro k hk
    by_cases e : k = i
    · rw [e, pk_us]
    · rw [pk_un (by omega)]
      exact h k (by omega)
theorem sw_w_x160 {kd wd pa la mq lc nw rc km kl kw kr tc ts tl tm : Int32} {a1 a2 a3 a4 a5 a6 a7 a8 a9 a10 a11 a12 a13 a14 a15 a16 a17 a18 a19 a20 a21 a22 a23 a24 : Nat → Int32} {post : Int32 → St2 → Prop} {n : Nat → Nat} {s : Nat → sw_SS} (h24 : sw_K24 n s a24) (hp : ∀ b12 b13 b14 b15 b16 b17 b18, sw_C n b12 → sw_S s b13 b14 b15 b16 b17 b18 → post rc (kd, wd, pa, la, mq, lc, nw, rc, km, kl, kw, kr, tc, ts, tl, tm, a1, a2, a3, a4, a5, a6, a7, a8, a9, a10, a11, b12, b13, b14, b15, b16, b17, b18, a19, a20, a21, a22, a23, a24)) :
    ∃ fu, wX_crash_160 post kd wd pa la mq lc nw rc km kl kw kr tc ts tl tm fu 0 a1 a2 a3 a4 a5 a6 a7 a8 a9 a10 a11 a12 a13 a14 a15 a16 a17 a18 a19 a20 a21 a22 a23 a24 := by
  refine pk_loop (fun f i (b : (Nat → Int32) × (Nat → Int32) × (Nat → Int32) × (Nat → Int32) × (Nat → Int32) × (Nat → Int32)) => wX_crash_160 post kd wd pa la mq lc nw rc km kl kw kr tc ts tl tm f (nI i) a1 a2 a3 a4 a5 a6 a7 a8 a9 a10 a11 a12 b.1 b.2.1 b.2.2.1 b.2.2.2.1 b.2.2.2.2.1 b.2.2.2.2.2 a19 a20 a21 a22 a23 a24)
    (fun i b => ∀ j, j < i → b.1 j = sw_i (s j).1 ∧ b.2.1 j = sw_i (s j).2.1 ∧ b.2.2.1 j = sw_i (s j).2.2.1 ∧ b.2.2.2.1 j = sw_i (s j).2.2.2.1 ∧ b.2.2.2.2.1 j = sw_i (s j).2.2.2.2.1 ∧ b.2.2.2.2.2 j = sw_i (s j).2.2.2.2.2) 128 0 (a13, a14, a15, a16, a17, a18) (by omega) (fun k hk => absurd hk (by omega)) ?_ ?_
  · intro f b h
    obtain ⟨b13, b14, b15, b16, b17, b18⟩ := b
    show wX_crash_160 post kd wd pa la mq lc nw rc km kl kw kr tc ts tl tm (f + 1) (nI 128) a1 a2 a3 a4 a5 a6 a7 a8 a9 a10 a11 a12 b13 b14 b15 b16 b17 b18 a19 a20 a21 a22 a23 a24
    unfold wX_crash_160
    exact pk_le 128 128 (fun _ => sw_w_x275 h24.2 (fun b12 h12 => hp _ _ _ _ _ _ _ h12 h)) (fun z => absurd z (by omega))
  · intro f i b hi h hw
    obtain ⟨b13, b14, b15, b16, b17, b18⟩ := b
    show wX_crash_160 post kd wd pa la mq lc nw rc km kl kw kr tc ts tl tm (f + 1) (nI i) a1 a2 a3 a4 a5 a6 a7 a8 a9 a10 a11 a12 b13 b14 b15 b16 b17 b18 a19 a20 a21 a22 a23 a24
    obtain ⟨e1, e2, e3, e4, e5, e6⟩ := h24.1 i hi
    have f1 : (6 : Int32) * nI i + 1 = nI (6 * i + 1) := sw_e6 i 1
    have f2 : (6 : Int32) * nI i + 2 = nI (6 * i + 2) := sw_e6 i 2
    have f3 : (6 : Int32) * nI i + 3 = nI (6 * i + 3) := sw_e6 i 3
    have f4 : (6 : Int32) * nI i + 4 = nI (6 * i + 4) := sw_e6 i 4
    have f5 : (6 : Int32) * nI i + 5 = nI (6 * i + 5) := sw_e6 i 5
    unfold wX_crash_160
    rw [f1, f2, f3, f4, f5, sw_e6', nI_clamp (show i < 2 ^ 31 by omega), nI_clamp (show 6 * i < 2 ^ 31 by omega), nI_clamp (show 6 * i + 1 < 2 ^ 31 by omega), nI_clamp (show 6 * i + 2 < 2 ^ 31 by omega), nI_clamp (show 6 * i + 3 < 2 ^ 31 by omega), nI_clamp (show 6 * i + 4 < 2 ^ 31 by omega), nI_clamp (show 6 * i + 5 < 2 ^ 31 by omega), e1, e2, e3, e4, e5, e6]
    have h0 : vp_in (nI i) 128 := pk_in i 128 hi
    refine pk_le 128 i (fun z => absurd z (by omega)) (fun _ => ⟨pk_in (6 * i) 772 (by omega), h0, nm_e ⟨pk_in (6 * i + 1) 772 (by omega), h0, nm_e ⟨pk_in (6 * i + 2) 772 (by omega), h0, nm_e ⟨pk_in (6 * i + 3) 772 (by omega), h0, nm_e ⟨pk_in (6 * i + 4) 772 (by omega), h0, nm_e ⟨pk_in (6 * i + 5) 772 (by omega), h0, nm_e (nm_r (nI_1 i) (hw (_, _, _, _, _, _) ?_))⟩⟩⟩⟩⟩⟩)
    intro j hj
    show upd b13 i (sw_i (s i).1) j = _ ∧ upd b14 i (sw_i (s i).2.1) j = _ ∧ upd b15 i (sw_i (s i).2.2.1) j = _ ∧ upd b16 i (sw_i (s i).2.2.2.1) j = _ ∧ upd b17 i (sw_i (s i).2.2.2.2.1) j = _ ∧ upd b18 i (sw_i (s i).2.2.2.2.2) j = _
    by_cases e : j = i
    · subst e
      rw [pk_us, pk_us, pk_us, pk_us, pk_us, pk_us]
      exact ⟨rfl, rfl, rfl, rfl, rfl, rfl⟩
    · rw [pk_un e, pk_un e, pk_un e, pk_un e, pk_un e, pk_un e]
      exact h j (by omega)
theorem sw_w_x83 {kd wd pa la mq lc nw rc km kl kw kr tc ts tl tm : Int32} {a1 a2 a3 a4 a5 a6 a7 a8 a9 a10 a11 a12 a13 a14 a15 a16 a17 a18 a19 a20 a21 a22 a23 a24 : Nat → Int32} {post : Int32 → St2 → Prop} {n : Nat → Nat} {s : Nat → sw_SS} {p : Nat → sw_PP} (h23 : sw_K23 p a23) (h24 : sw_K24 n s a24)
    (hp : ∀ b8 b9 b10 b11 b12 b13 b14 b15 b16 b17 b18, sw_P p b8 b9 b10 b11 → sw_C n b12 → sw_S s b13 b14 b15 b16 b17 b18 → post rc (kd, wd, pa, la, mq, lc, nw, rc, km, kl, kw, kr, tc, ts, tl, tm, a1, a2, a3, a4, a5, a6, a7, b8, b9, b10, b11, b12, b13, b14, b15, b16, b17, b18, a19, a20, a21, a22, a23, a24)) :
    ∃ fu, wX_crash_83 post kd wd pa la mq lc nw rc km kl kw kr tc ts tl tm fu 0 a1 a2 a3 a4 a5 a6 a7 a8 a9 a10 a11 a12 a13 a14 a15 a16 a17 a18 a19 a20 a21 a22 a23 a24 := by
  refine pk_loop (fun f i (b : (Nat → Int32) × (Nat → Int32) × (Nat → Int32) × (Nat → Int32)) => wX_crash_83 post kd wd pa la mq lc nw rc km kl kw kr tc ts tl tm f (nI i) a1 a2 a3 a4 a5 a6 a7 b.1 b.2.1 b.2.2.1 b.2.2.2 a12 a13 a14 a15 a16 a17 a18 a19 a20 a21 a22 a23 a24)
    (fun i b => ∀ j, j < i → b.1 j = sw_i (p j).1 ∧ b.2.1 j = sw_i (p j).2.1 ∧ b.2.2.1 j = sw_i (p j).2.2.1 ∧ b.2.2.2 j = sw_i (p j).2.2.2) 256 0 (a8, a9, a10, a11) (by omega) (fun k hk => absurd hk (by omega)) ?_ ?_
  · intro f b h
    obtain ⟨b8, b9, b10, b11⟩ := b
    show wX_crash_83 post kd wd pa la mq lc nw rc km kl kw kr tc ts tl tm (f + 1) (nI 256) a1 a2 a3 a4 a5 a6 a7 b8 b9 b10 b11 a12 a13 a14 a15 a16 a17 a18 a19 a20 a21 a22 a23 a24
    unfold wX_crash_83
    exact pk_le 256 256 (fun _ => sw_w_x160 h24 (fun b12 b13 b14 b15 b16 b17 b18 h12 hs => hp _ _ _ _ _ _ _ _ _ _ _ h h12 hs)) (fun z => absurd z (by omega))
  · intro f i b hi h hw
    obtain ⟨b8, b9, b10, b11⟩ := b
    show wX_crash_83 post kd wd pa la mq lc nw rc km kl kw kr tc ts tl tm (f + 1) (nI i) a1 a2 a3 a4 a5 a6 a7 b8 b9 b10 b11 a12 a13 a14 a15 a16 a17 a18 a19 a20 a21 a22 a23 a24
    obtain ⟨e1, e2, e3, e4⟩ := h23 i hi
    have f1 : (4 : Int32) * nI i + 1 = nI (4 * i + 1) := sw_e4 i 1
    have f2 : (4 : Int32) * nI i + 2 = nI (4 * i + 2) := sw_e4 i 2
    have f3 : (4 : Int32) * nI i + 3 = nI (4 * i + 3) := sw_e4 i 3
    unfold wX_crash_83
    rw [f1, f2, f3, sw_e4', nI_clamp (show i < 2 ^ 31 by omega), nI_clamp (show 4 * i < 2 ^ 31 by omega), nI_clamp (show 4 * i + 1 < 2 ^ 31 by omega), nI_clamp (show 4 * i + 2 < 2 ^ 31 by omega), nI_clamp (show 4 * i + 3 < 2 ^ 31 by omega), e1, e2, e3, e4]
    have h0 : vp_in (nI i) 256 := pk_in i 256 hi
    refine pk_le 256 i (fun z => absurd z (by omega)) (fun _ => ⟨pk_in (4 * i) 1024 (by omega), h0, nm_e ⟨pk_in (4 * i + 1) 1024 (by omega), h0, nm_e ⟨pk_in (4 * i + 2) 1024 (by omega), h0, nm_e ⟨pk_in (4 * i + 3) 1024 (by omega), h0, nm_e (nm_r (nI_1 i) (hw (_, _, _, _) ?_))⟩⟩⟩⟩)
    intro j hj
    show upd b8 i (sw_i (p i).1) j = _ ∧ upd b9 i (sw_i (p i).2.1) j = _ ∧ upd b10 i (sw_i (p i).2.2.1) j = _ ∧ upd b11 i (sw_i (p i).2.2.2) j = _
    by_cases e : j = i
    · subst e
      rw [pk_us, pk_us, pk_us, pk_us]
      exact ⟨rfl, rfl, rfl, rfl⟩
    · rw [pk_un e, pk_un e, pk_un e, pk_un e]
      exact h j (by omega)
/-- the results of K lie ahead of those of M -/
def sw_pre (K M : sw_MM) : Prop := sw_rc K ≤ sw_rc M ∧ ∀ i, i < sw_rc K → sw_rr M i = sw_rr K i
theorem sw_w_crash {c : sw_C4} {E : sw_EV} {M K : sw_MM} {u : St2} {post : Int32 → St2 → Prop} (h : sw_R c E M K u) (hpre : sw_pre K M) (hp : ∀ r u', sw_R c E K K u' → post r u') : wpX_crash post u := by
  revert hp
  refine sw_R_elim h (C := fun u => (∀ r u', sw_R c E K K u' → post r u') → wpX_crash post u) (fun km kl kw kr tc ts tl tm a1 a2 a3 a4 a5 a6 a7 a8 a9 a10 a11 a12 a13 a14 a15 a16 a17 a18 a19 a20 a21 a22 a23 a24 hE hQ hP hC hS hR hK => ?_)
  intro hp
  obtain ⟨k1, k2, k3, k4, k5, k6, k7⟩ := hK
  subst k1 k2 k3 k4
  unfold wpX_crash
  dsimp only
  refine pk_loop (fun f i (b : (Nat → Int32) × (Nat → Int32) × (Nat → Int32)) => wX_crash_2 post (sw_i c.1) (sw_i c.2.1) (sw_i c.2.2.1) (sw_i c.2.2.2) (sw_i (sw_mk M)) (sw_i (sw_lc M)) (sw_i (sw_nw M)) (nI (sw_rc M)) (sw_i (sw_mk K)) (sw_i (sw_lc K)) (sw_i (sw_nw K)) (nI (sw_rc K)) tc ts tl tm f (nI i) a1 a2 a3 a4 b.1 b.2.1 b.2.2 a8 a9 a10 a11 a12 a13 a14 a15 a16 a17 a18 a19 a20 a21 a22 a23 a24)
    (fun i b => ∀ j, j < i → b.1 j = nI (sw_ps K j) ∧ b.2.1 j = sw_i (sw_gt K j) ∧ b.2.2 j = sw_bi (sw_ig K j)) 3 0 (a5, a6, a7) (by omega) (fun k hk => absurd hk (by omega)) ?_ ?_
  · intro f b hb
    obtain ⟨b5, b6, b7⟩ := b
    show wX_crash_2 post (sw_i c.1) (sw_i c.2.1) (sw_i c.2.2.1) (sw_i c.2.2.2) (sw_i (sw_mk M)) (sw_i (sw_lc M)) (sw_i (sw_nw M)) (nI (sw_rc M)) (sw_i (sw_mk K)) (sw_i (sw_lc K)) (sw_i (sw_nw K)) (nI (sw_rc K)) tc ts tl tm (f + 1) (nI 3) a1 a2 a3 a4 b5 b6 b7 a8 a9 a10 a11 a12 a13 a14 a15 a16 a17 a18 a19 a20 a21 a22 a23 a24
    unfold wX_crash_2
    refine pk_le 3 3 (fun _ => ?_) (fun z => absurd z (by omega))
    refine sw_w_x83 k6 k7 (fun b8 b9 b10 b11 b12 b13 b14 b15 b16 b17 b18 hP' hC' hS' => hp _ _ ?_)
    refine ⟨⟨rfl, rfl, rfl, rfl⟩, ⟨rfl, rfl, rfl, rfl⟩, hE, hb, hP', hC', hS', ?_, ⟨rfl, rfl, rfl, rfl, k5, k6, k7⟩⟩
    intro i hi
    have := hR i (Nat.lt_of_lt_of_le hi hpre.1)
    show a19 (7 * i) = sw_i (sw_rr K i).1 ∧ a19 (7 * i + 1) = sw_i (sw_rr K i).2.1 ∧ a19 (7 * i + 2) = sw_i (sw_rr K i).2.2.1 ∧ a19 (7 * i + 3) = sw_i (sw_rr K i).2.2.2.1 ∧ a19 (7 * i + 4) = sw_i (sw_rr K i).2.2.2.2.1 ∧ a19 (7 * i + 5) = sw_i (sw_rr K i).2.2.2.2.2.1 ∧ a19 (7 * i + 6) = sw_i (sw_rr K i).2.2.2.2.2.2
    rw [← hpre.2 i hi]
    exact this
  · intro f i b hi hb hw
    obtain ⟨b5, b6, b7⟩ := b
    show wX_crash_2 post (sw_i c.1) (sw_i c.2.1) (sw_i c.2.2.1) (sw_i c.2.2.2) (sw_i (sw_mk M)) (sw_i (sw_lc M)) (sw_i (sw_nw M)) (nI (sw_rc M)) (sw_i (sw_mk K)) (sw_i (sw_lc K)) (sw_i (sw_nw K)) (nI (sw_rc K)) tc ts tl tm (f + 1) (nI i) a1 a2 a3 a4 b5 b6 b7 a8 a9 a10 a11 a12 a13 a14 a15 a16 a17 a18 a19 a20 a21 a22 a23 a24
    obtain ⟨q1, q2, q3⟩ := k5 i hi
    unfold wX_crash_2
    rw [nI_clamp (show i < 2 ^ 31 by omega), q1, q2, q3, sw_bi_nar]
    have h0 : vp_in (nI i) 3 := pk_in i 3 hi
    refine pk_le 3 i (fun z => absurd z (by omega)) (fun _ => ⟨h0, h0, nm_e ⟨h0, h0, nm_e ⟨h0, h0, nm_e (nm_r (nI_1 i) (hw (_, _, _) ?_))⟩⟩⟩)
    intro j hj
    show upd b5 i (nI (sw_ps K i)) j = _ ∧ upd b6 i (sw_i (sw_gt K i)) j = _ ∧ upd b7 i (sw_bi (sw_ig K i)) j = _
    by_cases e : j = i
    · subst e
      rw [pk_us, pk_us, pk_us]
      exact ⟨rfl, rfl, rfl⟩
    · rw [pk_un e, pk_un e, pk_un e]
      exact hb j (by omega)
end
section
/-- open: how many windows, of d from w on, hold something -/
def sw_on (pn : Nat → sw_PP) (P : Int) (k : Nat) : Nat → Int → Nat → Nat
  | 0, _, n => n
  | d + 1, w, n => sw_on pn P k d (w + 1) (if 0 < (sw_tot pn P k w).1 then n + 1 else n)
def sw_op (c : sw_C4) (M : sw_MM) (k : Nat) : Nat := if c.1 = 2 then sw_sn M k else sw_on (sw_pn M) c.2.2.1 k (64 - sw_nw M).toNat (sw_nw M) 0
/-- pending: the sum of the first window that holds something -/
def sw_pd (pn : Nat → sw_PP) (P : Int) (k : Nat) : Nat → Int → Int
  | 0, _ => 0
  | d + 1, w => if 0 < (sw_tot pn P k w).1 then (sw_tot pn P k w).2.1 else sw_pd pn P k d (w + 1)
def sw_pe (c : sw_C4) (M : sw_MM) (k : Nat) : Int := if c.1 = 2 then (if 0 < sw_sn M k then (sw_ss M (32 * k)).2.2.2.1 else 0) else sw_pd (sw_pn M) c.2.2.1 k (64 - sw_nw M).toNat (sw_nw M)
theorem sw_w_o33 {kd wd la mq lc nw rc km kl kw kr : Int32} {a1 a2 a3 a4 a5 a6 a7 a8 a9 a10 a11 a12 a13 a14 a15 a16 a17 a18 a19 a20 a21 a22 a23 a24 : Nat → Int32} {post : Int32 → St2 → Prop} {p : Nat → sw_PP} {k : Nat} {P : Int} (hk : k < 4) (hPa : 1 ≤ P ∧ P ≤ 4) (hb : ∀ j, j < 256 → sw_pb (p j)) (hP : sw_P p a8 a9 a10 a11) :
    ∀ (d : Nat) (w : Int) (n : Nat) (tc ts tl tm : Int32), w + d = 64 → -5 ≤ w → (∀ tc ts tl tm, post (nI (sw_on p P k d w n)) (kd, wd, sw_i P, la, mq, lc, nw, rc, km, kl, kw, kr, tc, ts, tl, tm, a1, a2, a3, a4, a5, a6, a7, a8, a9, a10, a11, a12, a13, a14, a15, a16, a17, a18, a19, a20, a21, a22, a23, a24)) →
    wX_open_33 post (nI k) (d + 1) (nI n) (sw_i w) kd wd (sw_i P) la mq lc nw rc km kl kw kr tc ts tl tm a1 a2 a3 a4 a5 a6 a7 a8 a9 a10 a11 a12 a13 a14 a15 a16 a17 a18 a19 a20 a21 a22 a23 a24 := by
  intro d
  induction d with
  | zero =>
    intro w n tc ts tl tm h1 h2 hp
    unfold wX_open_33
    exact sw_ble 64 w rfl rfl (fun _ => hp _ _ _ _) (fun z => absurd z (by omega))
  | succ d ih =>
    intro w n tc ts tl tm h1 h2 hp
    unfold wX_open_33
    refine sw_ble 64 w rfl rfl (fun z => absurd z (by omega)) (fun _ => ?_)
    refine sw_w_put hk hPa (by omega) hb hP ?_
    have ht := sw_tot_tb (w := w) hk hPa hb
    unfold sw_tb at ht
    unfold sw_on at hp
    refine sw_ble (sw_tot p P k w).1 0 rfl rfl (fun z => ?_) (fun z => ?_)
    · rw [if_neg (by omega)] at hp
      exact nm_r (nI_add n 0) (nm_r (sw_p1 w) (ih (w + 1) n _ _ _ _ (by omega) (by omega) hp))
    · rw [if_pos z] at hp
      exact nm_r (nI_1 n) (nm_r (sw_p1 w) (ih (w + 1) (n + 1) _ _ _ _ (by omega) (by omega) hp))
theorem sw_w_open {c : sw_C4} {E : sw_EV} {M K : sw_MM} {u : St2} {post : Int32 → St2 → Prop} {k : Nat} (hc : sw_cok c) (hk : k < 4) (hw : sw_wok c M) (h : sw_R c E M K u)
    (hp : ∀ u', sw_R c E M K u' → post (nI (sw_op c M k)) u') : wpX_open post u (nI k) := by
  revert hp
  refine sw_R_elim h (C := fun u => (∀ u', sw_R c E M K u' → post (nI (sw_op c M k)) u') → wpX_open post u (nI k)) (fun km kl kw kr tc ts tl tm a1 a2 a3 a4 a5 a6 a7 a8 a9 a10 a11 a12 a13 a14 a15 a16 a17 a18 a19 a20 a21 a22 a23 a24 hE hQ hP hC hS hR hK => ?_)
  intro hp
  obtain ⟨o1, o2, o3, o4, o5⟩ := hc
  unfold wpX_open
  dsimp only
  refine sw_w_isK hk (br_f (by decide) ?_)
  unfold sw_op at hp
  refine sw_beq c.1 2 rfl rfl (fun z => ⟨pk_in k 4 hk, ?_⟩) (fun z => ?_)
  · rw [if_pos z] at hp
    rw [nI_clamp (show k < 2 ^ 31 by omega), hC k hk]
    exact hp _ ⟨⟨rfl, rfl, rfl, rfl⟩, ⟨rfl, rfl, rfl, rfl⟩, hE, hQ, hP, hC, hS, hR, hK⟩
  · rw [if_neg z] at hp
    obtain ⟨v1, v2, v3, v4⟩ := hw.2.2.1 (by omega)
    refine ⟨(64 - sw_nw M).toNat + 1, sw_w_o33 hk o3 v1 hP _ _ 0 _ _ _ _ (by omega) v2 (fun tc ts tl tm => hp _ ?_)⟩
    exact ⟨⟨rfl, rfl, rfl, rfl⟩, ⟨rfl, rfl, rfl, rfl⟩, hE, hQ, hP, hC, hS, hR, hK⟩
theorem sw_w_p45 {kd wd la mq lc nw rc km kl kw kr : Int32} {a1 a2 a3 a4 a5 a6 a7 a8 a9 a10 a11 a12 a13 a14 a15 a16 a17 a18 a19 a20 a21 a22 a23 a24 : Nat → Int32} {post : Int32 → St2 → Prop} {p : Nat → sw_PP} {k : Nat} {P : Int} (hk : k < 4) (hPa : 1 ≤ P ∧ P ≤ 4) (hb : ∀ j, j < 256 → sw_pb (p j)) (hP : sw_P p a8 a9 a10 a11) :
    ∀ (d : Nat) (w : Int) (tc ts tl tm : Int32), w + d = 64 → -5 ≤ w → (∀ tc ts tl tm, post (sw_i (sw_pd p P k d w)) (kd, wd, sw_i P, la, mq, lc, nw, rc, km, kl, kw, kr, tc, ts, tl, tm, a1, a2, a3, a4, a5, a6, a7, a8, a9, a10, a11, a12, a13, a14, a15, a16, a17, a18, a19, a20, a21, a22, a23, a24)) →
    wX_pending_45 post (nI k) (d + 1) (sw_i w) kd wd (sw_i P) la mq lc nw rc km kl kw kr tc ts tl tm a1 a2 a3 a4 a5 a6 a7 a8 a9 a10 a11 a12 a13 a14 a15 a16 a17 a18 a19 a20 a21 a22 a23 a24 := by
  intro d
  induction d with
  | zero =>
    intro w tc ts tl tm h1 h2 hp
    unfold wX_pending_45
    exact sw_ble 64 w rfl rfl (fun _ => hp _ _ _ _) (fun z => absurd z (by omega))
  | succ d ih =>
    intro w tc ts tl tm h1 h2 hp
    unfold wX_pending_45
    refine sw_ble 64 w rfl rfl (fun z => absurd z (by omega)) (fun _ => ?_)
    refine sw_w_put hk hPa (by omega) hb hP ?_
    have ht := sw_tot_tb (w := w) hk hPa hb
    unfold sw_tb at ht
    unfold sw_pd at hp
    refine sw_ble (sw_tot p P k w).1 0 rfl rfl (fun z => ?_) (fun z => ?_)
    · rw [if_neg (by omega)] at hp
      exact nm_r (sw_p1 w) (ih (w + 1) _ _ _ _ (by omega) (by omega) hp)
    · rw [if_pos z] at hp
      exact hp _ _ _ _
theorem sw_w_pend {c : sw_C4} {E : sw_EV} {M K : sw_MM} {u : St2} {post : Int32 → St2 → Prop} {k : Nat} (hc : sw_cok c) (hk : k < 4) (hw : sw_wok c M) (h : sw_R c E M K u)
    (hp : ∀ u', sw_R c E M K u' → post (sw_i (sw_pe c M k)) u') : wpX_pending post u (nI k) := by
  revert hp
  refine sw_R_elim h (C := fun u => (∀ u', sw_R c E M K u' → post (sw_i (sw_pe c M k)) u') → wpX_pending post u (nI k)) (fun km kl kw kr tc ts tl tm a1 a2 a3 a4 a5 a6 a7 a8 a9 a10 a11 a12 a13 a14 a15 a16 a17 a18 a19 a20 a21 a22 a23 a24 hE hQ hP hC hS hR hK => ?_)
  intro hp
  obtain ⟨o1, o2, o3, o4, o5⟩ := hc
  unfold wpX_pending
  dsimp only
  refine sw_w_isK hk (br_f (by decide) ?_)
  unfold sw_pe at hp
  refine sw_beq c.1 2 rfl rfl (fun z => ⟨pk_in k 4 hk, ?_⟩) (fun z => ?_)
  · rw [if_pos z] at hp
    have hn := (hw.2.2.2 (by omega)).1.1 k hk
    have hn' : sw_sn M k ≤ 32 := hn
    rw [nI_clamp (show k < 2 ^ 31 by omega), hC k hk, sw_e32', nI_clamp (show 32 * k < 2 ^ 31 by omega)]
    have hu : sw_R c E M K ((sw_i c.1), (sw_i c.2.1), (sw_i c.2.2.1), (sw_i c.2.2.2), (sw_i (sw_mk M)), (sw_i (sw_lc M)), (sw_i (sw_nw M)), (nI (sw_rc M)), km, kl, kw, kr, tc, ts, tl, tm, a1, a2, a3, a4, a5, a6, a7, a8, a9, a10, a11, a12, a13, a14, a15, a16, a17, a18, a19, a20, a21, a22, a23, a24) := ⟨⟨rfl, rfl, rfl, rfl⟩, ⟨rfl, rfl, rfl, rfl⟩, hE, hQ, hP, hC, hS, hR, hK⟩
    refine pk_le (sw_sn M k) 0 (fun z2 => ?_) (fun z2 => ⟨pk_in (32 * k) 128 (by omega), ?_⟩)
    · rw [if_neg (by omega)] at hp
      exact hp _ hu
    · rw [if_pos z2] at hp
      rw [(hS (32 * k) (by omega)).2.2.2.1]
      exact hp _ hu
  · rw [if_neg z] at hp
    obtain ⟨v1, v2, v3, v4⟩ := hw.2.2.1 (by omega)
    refine ⟨(64 - sw_nw M).toNat + 1, sw_w_p45 hk o3 v1 hP _ _ _ _ _ _ (by omega) v2 (fun tc ts tl tm => hp _ ?_)⟩
    exact ⟨⟨rfl, rfl, rfl, rfl⟩, ⟨rfl, rfl, rfl, rfl⟩, hE, hQ, hP, hC, hS, hR, hK⟩
/-- a result's numbers by their places -/
def sw_cell (x : sw_RR) (w : Nat) : Int :=
  if w = 0 then x.1 else if w = 1 then x.2.1 else if w = 2 then x.2.2.1 else if w = 3 then x.2.2.2.1 else if w = 4 then x.2.2.2.2.1 else if w = 5 then x.2.2.2.2.2.1 else x.2.2.2.2.2.2
def sw_wt (w : Nat) : Int32 := if w = 0 then 1 else if w = 1 then 3 else if w = 2 then 5 else if w = 3 then 7 else if w = 4 then 11 else if w = 5 then 13 else 17
theorem sw_Rs_c {r : sw_RS} {a : Nat → Int32} (h : sw_Rs r a) {i w : Nat} (hi : i < r.1) (hw : w < 7) : a (7 * i + w) = sw_i (sw_cell (r.2 i) w) := by
  obtain ⟨h0, h1, h2, h3, h4, h5, h6⟩ := h i hi
  match w, hw with
  | 0, _ => exact h0
  | 1, _ => exact h1
  | 2, _ => exact h2
  | 3, _ => exact h3
  | 4, _ => exact h4
  | 5, _ => exact h5
  | 6, _ => exact h6
theorem sw_w_wt {kd wd pa la mq lc nw rc km kl kw kr tc ts tl tm : Int32} {a1 a2 a3 a4 a5 a6 a7 a8 a9 a10 a11 a12 a13 a14 a15 a16 a17 a18 a19 a20 a21 a22 a23 a24 : Nat → Int32} {post : Int32 → Prop} {w : Nat} (hw : w < 7) (hp : post (sw_wt w)) : wpX_weightOf post (kd, wd, pa, la, mq, lc, nw, rc, km, kl, kw, kr, tc, ts, tl, tm, a1, a2, a3, a4, a5, a6, a7, a8, a9, a10, a11, a12, a13, a14, a15, a16, a17, a18, a19, a20, a21, a22, a23, a24) (nI w) := by
  unfold wpX_weightOf
  dsimp only
  match w, hw, hp with
  | 0, _, hp => exact br_t rfl hp
  | 1, _, hp => exact br_f (by decide) (br_t rfl hp)
  | 2, _, hp => exact br_f (by decide) (br_f (by decide) (br_t rfl hp))
  | 3, _, hp => exact br_f (by decide) (br_f (by decide) (br_f (by decide) (br_t rfl hp)))
  | 4, _, hp => exact br_f (by decide) (br_f (by decide) (br_f (by decide) (br_f (by decide) (br_t rfl hp))))
  | 5, _, hp => exact br_f (by decide) (br_f (by decide) (br_f (by decide) (br_f (by decide) (br_f (by decide) (br_t rfl hp)))))
  | 6, _, hp => exact br_f (by decide) (br_f (by decide) (br_f (by decide) (br_f (by decide) (br_f (by decide) (br_f (by decide) hp)))))
/-- digest -/
def sw_dw (x : sw_RR) : Nat → Nat → Int32 → Int32
  | 0, _, y => y
  | d + 1, w, y => sw_dw x d (w + 1) (y + sw_wt w * sw_i (sw_cell x w))
def sw_dg (rr : Nat → sw_RR) : Nat → Nat → Int32 → Int32
  | 0, _, y => y
  | d + 1, i, y => sw_dg rr d (i + 1) (y + (nI i + 1) * sw_dw (rr i) 7 0 0)
theorem sw_w_d17 {kd wd pa la mq lc nw rc km kl kw kr tc ts tl tm : Int32} {a1 a2 a3 a4 a5 a6 a7 a8 a9 a10 a11 a12 a13 a14 a15 a16 a17 a18 a19 a20 a21 a22 a23 a24 : Nat → Int32} {post : Int32 → Prop} {J4 : Int32 → Int32 → Prop} {r : sw_RS} {i : Nat} {x1 : Int32} (hi : i < r.1) (hr : r.1 ≤ 300) (hR : sw_Rs r a19) :
    ∀ (d w : Nat) (y : Int32), w + d = 7 → J4 (x1 + (nI i + 1) * sw_dw (r.2 i) d w y) (nI (i + 1)) → wX_digest_17 post J4 x1 (nI i) kd wd pa la mq lc nw rc km kl kw kr tc ts tl tm a1 a2 a3 a4 a5 a6 a7 a8 a9 a10 a11 a12 a13 a14 a15 a16 a17 a18 a19 a20 a21 a22 a23 a24 (d + 1) y (nI w) := by
  intro d
  induction d with
  | zero =>
    intro w y hw hp
    unfold wX_digest_17
    exact pk_le 7 w (fun _ => nm_e (nm_r (nI_1 i) hp)) (fun z => absurd z (by omega))
  | succ d ih =>
    intro w y hw hp
    unfold wX_digest_17
    refine pk_le 7 w (fun z => absurd z (by omega)) (fun _ => ?_)
    refine sw_w_wt (by omega) ?_
    rw [sw_e7, nI_clamp (show 7 * i + w < 2 ^ 31 by omega), sw_Rs_c hR hi (by omega)]
    exact ⟨pk_in (7 * i + w) 2100 (by omega), nm_e (nm_r (nI_1 w) (ih (w + 1) _ (by omega) hp))⟩
theorem sw_w_d4 {kd wd pa la mq lc nw km kl kw kr tc ts tl tm : Int32} {a1 a2 a3 a4 a5 a6 a7 a8 a9 a10 a11 a12 a13 a14 a15 a16 a17 a18 a19 a20 a21 a22 a23 a24 : Nat → Int32} {post : Int32 → Prop} {r : sw_RS} (hr : r.1 ≤ 300) (hR : sw_Rs r a19) :
    ∀ (d i : Nat) (y : Int32), i + d = r.1 → post (sw_dg r.2 d i y) → wX_digest_4 post kd wd pa la mq lc nw (nI r.1) km kl kw kr tc ts tl tm a1 a2 a3 a4 a5 a6 a7 a8 a9 a10 a11 a12 a13 a14 a15 a16 a17 a18 a19 a20 a21 a22 a23 a24 (d + 1) y (nI i) := by
  intro d
  induction d with
  | zero =>
    intro i y hi hp
    unfold wX_digest_4
    exact pk_le r.1 i (fun _ => hp) (fun z => absurd z (by omega))
  | succ d ih =>
    intro i y hi hp
    unfold wX_digest_4
    refine pk_le r.1 i (fun z => absurd z (by omega)) (fun _ => ⟨8, ?_⟩)
    exact sw_w_d17 (by omega) hr hR 7 0 0 rfl (ih (i + 1) _ (by omega) hp)
theorem sw_w_dig {c : sw_C4} {E : sw_EV} {M K : sw_MM} {u : St2} {post : Int32 → Prop} (hr : sw_rc M ≤ 300) (h : sw_R c E M K u)
    (hp : post (sw_dg (sw_rr M) (sw_rc M) 0 0)) : wpX_digest post u := by
  revert hp
  refine sw_R_elim h (C := fun u => post (sw_dg (sw_rr M) (sw_rc M) 0 0) → wpX_digest post u) (fun km kl kw kr tc ts tl tm a1 a2 a3 a4 a5 a6 a7 a8 a9 a10 a11 a12 a13 a14 a15 a16 a17 a18 a19 a20 a21 a22 a23 a24 hE hQ hP hC hS hR hK => ?_)
  intro hp
  unfold wpX_digest
  exact ⟨sw_rc M + 1, sw_w_d4 (r := (sw_rc M, sw_rr M)) hr hR _ 0 0 (Nat.zero_add _) hp⟩
theorem sw_w_result {kd wd pa la mq lc nw km kl kw kr tc ts tl tm : Int32} {a1 a2 a3 a4 a5 a6 a7 a8 a9 a10 a11 a12 a13 a14 a15 a16 a17 a18 a19 a20 a21 a22 a23 a24 : Nat → Int32} {post : Int32 → Prop} {r : sw_RS} {i w : Nat} (hi : i < r.1) (hr : r.1 ≤ 300) (hw : w < 7) (hR : sw_Rs r a19) (hp : post (sw_i (sw_cell (r.2 i) w))) :
    wpX_result post (kd, wd, pa, la, mq, lc, nw, nI r.1, km, kl, kw, kr, tc, ts, tl, tm, a1, a2, a3, a4, a5, a6, a7, a8, a9, a10, a11, a12, a13, a14, a15, a16, a17, a18, a19, a20, a21, a22, a23, a24) (nI i) (nI w) := by
  unfold wpX_result
  dsimp only
  rw [sw_e7, nI_clamp (show 7 * i + w < 2 ^ 31 by omega), sw_Rs_c hR hi hw]
  exact br_f (nI_pos (by omega)) (pk_le r.1 i (fun z => absurd z (by omega)) (fun _ => br_f (nI_pos (by omega)) (pk_lt w 7 (fun _ => ⟨pk_in (7 * i + w) 2100 (by omega), hp⟩) (fun z => absurd z (by omega)))))
theorem sw_w_pos {c : sw_C4} {E : sw_EV} {M K : sw_MM} {u : St2} {post : Int32 → Prop} {s : Nat} (hs : s < 3) (h : sw_R c E M K u) (hp : post (nI (sw_ps M s))) : wpX_position post u (nI s) := by
  revert hp
  refine sw_R_elim h (C := fun u => post (nI (sw_ps M s)) → wpX_position post u (nI s)) (fun km kl kw kr tc ts tl tm a1 a2 a3 a4 a5 a6 a7 a8 a9 a10 a11 a12 a13 a14 a15 a16 a17 a18 a19 a20 a21 a22 a23 a24 hE hQ hP hC hS hR hK => ?_)
  intro hp
  unfold wpX_position
  dsimp only
  rw [nI_clamp (show s < 2 ^ 31 by omega), (hQ s hs).1]
  exact sw_w_isS hs (br_f (by decide) ⟨pk_in s 3 hs, hp⟩)
end
section
/-- a result is sound, the mark being m -/
def sw_rk (m : Int) (x : sw_RR) : Prop :=
  x.2.1 < x.2.2.1 ∧ x.2.2.1 ≤ m ∧ -1000 ≤ x.2.1 ∧ 1 ≤ x.2.2.2.1 ∧ x.2.2.2.1 ≤ 1000 ∧ x.2.2.2.2.2.1 ≤ x.2.2.2.2.2.2 ∧ -50 ≤ x.2.2.2.2.2.1 ∧ x.2.2.2.2.2.2 ≤ 50 ∧
  x.2.2.2.2.2.1 * x.2.2.2.1 ≤ x.2.2.2.2.1 ∧ x.2.2.2.2.1 ≤ x.2.2.2.2.2.2 * x.2.2.2.1
/-- the events of a result -/
def sw_ct (rr : Nat → sw_RR) : Nat → Int := fun i => (rr i).2.2.2.1
def sw_o4 (c : sw_C4) (M : sw_MM) : Nat := sw_op c M 0 + sw_op c M 1 + sw_op c M 2 + sw_op c M 3
def sw_p3 (M : sw_MM) : Nat := sw_ps M 0 + sw_ps M 1 + sw_ps M 2
/-- what sound asks for -/
def sw_sok (c : sw_C4) (M : sw_MM) : Prop :=
  sw_rc M ≤ 300 ∧ (∀ i, i < sw_rc M → sw_rk (sw_mk M) (sw_rr M i)) ∧ (∀ i, i + 1 < sw_rc M → (sw_rr M i).2.2.1 ≤ (sw_rr M (i + 1)).2.2.1) ∧
  (0 ≤ sw_lc M ∧ sw_lc M ≤ 1000) ∧ (∀ s, s < 3 → sw_ps M s ≤ 20) ∧
  (c.1 = 1 ∨ (sw_sm (sw_ct (sw_rr M)) 0 (sw_rc M) + sw_lc M ≤ sw_p3 M ∧ (0 < sw_o4 c M ∨ sw_sm (sw_ct (sw_rr M)) 0 (sw_rc M) + sw_lc M = sw_p3 M) ∧ sw_sm (sw_ct (sw_rr M)) 0 (sw_rc M) + sw_lc M + sw_o4 c M ≤ sw_p3 M))
theorem sw_mulb {a b : Int} (h1 : -50 ≤ a) (h2 : a ≤ 50) (h3 : 0 ≤ b) (h4 : b ≤ 1000) : -50000 ≤ a * b ∧ a * b ≤ 50000 := by
  have e1 : -50 * b ≤ a * b := Int.mul_le_mul_of_nonneg_right h1 h3
  have e2 : a * b ≤ 50 * b := Int.mul_le_mul_of_nonneg_right h2 h3
  omega
theorem sw_on_le (p : Nat → sw_PP) (P : Int) (k : Nat) : ∀ (d : Nat) (w : Int) (n : Nat), sw_on p P k d w n ≤ n + d ∧ n ≤ sw_on p P k d w n := by
  intro d
  induction d with
  | zero => intro w n; exact ⟨Nat.le_refl _, Nat.le_refl _⟩
  | succ d ih =>
    intro w n
    unfold sw_on
    split
    · have := ih (w + 1) (n + 1)
      omega
    · have := ih (w + 1) n
      omega
theorem sw_op_le {c : sw_C4} {M : sw_MM} {k : Nat} (hc : sw_cok c) (hw : sw_wok c M) (hk : k < 4) : sw_op c M k ≤ 100 := by
  unfold sw_op
  split
  · have : sw_sn M k ≤ 32 := (hw.2.2.2 (by omega)).1.1 k hk
    omega
  · obtain ⟨v1, v2, v3, v4⟩ := hw.2.2.1 (by have := hc.1; omega)
    have := (sw_on_le (sw_pn M) c.2.2.1 k (64 - sw_nw M).toNat (sw_nw M) 0).1
    omega
theorem sw_sm_b {f : Nat → Int} : ∀ n : Nat, (∀ i, i < n → 1 ≤ f i ∧ f i ≤ 1000) → 0 ≤ sw_sm f 0 n ∧ sw_sm f 0 n ≤ 1000 * n := by
  intro n
  induction n with
  | zero => intro _; exact ⟨Int.le_refl _, Int.le_refl _⟩
  | succ n ih =>
    intro h
    have h1 := ih (fun i hi => h i (by omega))
    have h2 := h n (by omega)
    show 0 ≤ sw_sm f 0 n + f (0 + n) ∧ sw_sm f 0 n + f (0 + n) ≤ _
    rw [Nat.zero_add]
    omega
theorem sw_w_sfin {c : sw_C4} {E : sw_EV} {M K : sw_MM} {kd wd pa la mq lc nw rc km kl kw kr tc ts tl tm : Int32} {a1 a2 a3 a4 a5 a6 a7 a8 a9 a10 a11 a12 a13 a14 a15 a16 a17 a18 a19 a20 a21 a22 a23 a24 : Nat → Int32} {post : Int32 → St2 → Prop} (hc : sw_cok c) (hw : sw_wok c M) (hs : sw_sok c M) (hp : ∀ u', sw_R c E M K u' → post 1 u')
    (h : sw_R c E M K (kd, wd, pa, la, mq, lc, nw, rc, km, kl, kw, kr, tc, ts, tl, tm, a1, a2, a3, a4, a5, a6, a7, a8, a9, a10, a11, a12, a13, a14, a15, a16, a17, a18, a19, a20, a21, a22, a23, a24)) {x2 x4 x5 : Int32} (e2 : x2 = sw_i (sw_sm (sw_ct (sw_rr M)) 0 (sw_rc M))) (e4 : x4 = nI (sw_p3 M)) (e5 : x5 = nI (sw_o4 c M)) (hk : ¬ c.1 = 1) :
    wpX_late (fun r_365 => (((x4 < (x2 + r_365) → (post 0 (kd, wd, pa, la, mq, lc, nw, rc, km, kl, kw, kr, tc, ts, tl, tm, a1, a2, a3, a4, a5, a6, a7, a8, a9, a10, a11, a12, a13, a14, a15, a16, a17, a18, a19, a20, a21, a22, a23, a24))) ∧ (¬ x4 < (x2 + r_365) → (((0 < x5 → (wL_sound_216 post x2 x4 x5 kd wd pa la mq lc nw rc km kl kw kr tc ts tl tm a1 a2 a3 a4 a5 a6 a7 a8 a9 a10 a11 a12 a13 a14 a15 a16 a17 a18 a19 a20 a21 a22 a23 a24)) ∧ (¬ 0 < x5 → (wpX_late (fun r_370 => ((((x2 + r_370) = x4 → (wL_sound_216 post x2 x4 x5 kd wd pa la mq lc nw rc km kl kw kr tc ts tl tm a1 a2 a3 a4 a5 a6 a7 a8 a9 a10 a11 a12 a13 a14 a15 a16 a17 a18 a19 a20 a21 a22 a23 a24)) ∧ (¬ (x2 + r_370) = x4 → (post 0 (kd, wd, pa, la, mq, lc, nw, rc, km, kl, kw, kr, tc, ts, tl, tm, a1, a2, a3, a4, a5, a6, a7, a8, a9, a10, a11, a12, a13, a14, a15, a16, a17, a18, a19, a20, a21, a22, a23, a24)))))) (kd, wd, pa, la, mq, lc, nw, rc, km, kl, kw, kr, tc, ts, tl, tm, a1, a2, a3, a4, a5, a6, a7, a8, a9, a10, a11, a12, a13, a14, a15, a16, a17, a18, a19, a20, a21, a22, a23, a24))))))))) (kd, wd, pa, la, mq, lc, nw, rc, km, kl, kw, kr, tc, ts, tl, tm, a1, a2, a3, a4, a5, a6, a7, a8, a9, a10, a11, a12, a13, a14, a15, a16, a17, a18, a19, a20, a21, a22, a23, a24) := by
  have hu := h
  obtain ⟨⟨k1, k2, k3, k4⟩, ⟨m1, m2, m3, m4⟩, _⟩ := h
  obtain ⟨s1, s2, s3, s4, s5, s6⟩ := hs
  have hsum := sw_sm_b (f := sw_ct (sw_rr M)) (sw_rc M) (fun i hi => ⟨(s2 i hi).2.2.2.1, (s2 i hi).2.2.2.2.1⟩)
  have p0 := s5 0 (by omega)
  have p1 := s5 1 (by omega)
  have p2 := s5 2 (by omega)
  have o0 := sw_op_le (k := 0) hc hw (by omega)
  have o1 := sw_op_le (k := 1) hc hw (by omega)
  have o2 := sw_op_le (k := 2) hc hw (by omega)
  have o3 := sw_op_le (k := 3) hc hw (by omega)
  have hp3 : sw_p3 M ≤ 60 := by unfold sw_p3; omega
  have ho4 : sw_o4 c M ≤ 400 := by unfold sw_o4; omega
  obtain ⟨t1, t2, t3⟩ := s6.resolve_left hk
  have k216 : wL_sound_216 post x2 x4 x5 kd wd pa la mq lc nw rc km kl kw kr tc ts tl tm a1 a2 a3 a4 a5 a6 a7 a8 a9 a10 a11 a12 a13 a14 a15 a16 a17 a18 a19 a20 a21 a22 a23 a24 := by
    unfold wL_sound_216
    unfold wpX_late
    dsimp only
    refine sw_blt (sw_p3 M : Int) (sw_sm (sw_ct (sw_rr M)) 0 (sw_rc M) + sw_lc M + (sw_o4 c M : Int)) ?_ ?_ (fun z => absurd z (by omega)) (fun _ => hp _ hu)
    · rw [e4, sw_n]
    · rw [e2, m2, e5, sw_add, sw_n, sw_add]
  unfold wpX_late
  dsimp only
  have e24 : x2 + lc = sw_i (sw_sm (sw_ct (sw_rr M)) 0 (sw_rc M) + sw_lc M) := by rw [e2, m2, sw_add]
  have e4' : x4 = sw_i (sw_p3 M : Int) := by rw [e4, sw_n]
  have e5' : x5 = sw_i (sw_o4 c M : Int) := by rw [e5, sw_n]
  refine sw_blt (sw_p3 M : Int) _ e4' e24 (fun z => absurd z (by omega)) (fun _ => ?_)
  refine sw_blt 0 (sw_o4 c M : Int) rfl e5' (fun _ => k216) (fun z => ?_)
  exact sw_beq _ (sw_p3 M : Int) e24 e4' (fun _ => k216) (fun z2 => absurd z2 (by omega))
theorem sw_w_s9 {c : sw_C4} {E : sw_EV} {M K : sw_MM} {km kl kw kr tc ts tl tm : Int32} {a1 a2 a3 a4 a5 a6 a7 a8 a9 a10 a11 a12 a13 a14 a15 a16 a17 a18 a19 a20 a21 a22 a23 a24 : Nat → Int32} {post : Int32 → St2 → Prop} (hc : sw_cok c) (hw : sw_wok c M) (hs : sw_sok c M) (hp : ∀ u', sw_R c E M K u' → post 1 u')
    (h : sw_R c E M K (sw_i c.1, sw_i c.2.1, sw_i c.2.2.1, sw_i c.2.2.2, sw_i (sw_mk M), sw_i (sw_lc M), sw_i (sw_nw M), nI (sw_rc M), km, kl, kw, kr, tc, ts, tl, tm, a1, a2, a3, a4, a5, a6, a7, a8, a9, a10, a11, a12, a13, a14, a15, a16, a17, a18, a19, a20, a21, a22, a23, a24)) :
    ∀ (d i : Nat) (l : Int), i + d = sw_rc M → (-1000 ≤ l ∧ l ≤ 63) → (i < sw_rc M → l ≤ (sw_rr M i).2.2.1) → wL_sound_9 post (sw_i c.1) (sw_i c.1) (sw_i c.2.1) (sw_i c.2.2.1) (sw_i c.2.2.2) (sw_i (sw_mk M)) (sw_i (sw_lc M)) (sw_i (sw_nw M)) (nI (sw_rc M)) km kl kw kr tc ts tl tm a1 a2 a3 a4 a5 a6 a7 a8 a9 a10 a11 a12 a13 a14 a15 a16 a17 a18 a19 a20 a21 a22 a23 a24 (d + 1) (sw_i (sw_sm (sw_ct (sw_rr M)) 0 i)) (sw_i l) (nI i) := by
  obtain ⟨s1, s2, s3, s4, s5, s6⟩ := id hs
  have hR : sw_Rs (sw_rc M, sw_rr M) a19 := h.2.2.2.2.2.2.2.1
  intro d
  induction d with
  | zero =>
    intro i l hi hl hl2
    have ei : i = sw_rc M := by omega
    subst ei
    unfold wL_sound_9
    unfold wpX_results
    dsimp only
    refine pk_le (sw_rc M) (sw_rc M) (fun _ => ?_) (fun z => absurd z (by omega))
    refine sw_w_pos (s := 0) (by omega) h ?_
    refine sw_w_pos (s := 1) (by omega) h ?_
    refine sw_w_pos (s := 2) (by omega) h ?_
    refine nm_r (e' := nI (sw_p3 M)) (by rw [nI_add, nI_add]; rfl) ?_
    refine sw_w_open (k := 0) hc (by omega) hw h (fun u1 h1 => ?_)
    obtain ⟨kd, wd, pa, la, mq, lc, nw, rc, km, kl, kw, kr, tc, ts, tl, tm, a1, a2, a3, a4, a5, a6, a7, a8, a9, a10, a11, a12, a13, a14, a15, a16, a17, a18, a19, a20, a21, a22, a23, a24⟩ := u1
    refine sw_w_open (k := 1) hc (by omega) hw h1 (fun u2 h2 => ?_)
    obtain ⟨kd, wd, pa, la, mq, lc, nw, rc, km, kl, kw, kr, tc, ts, tl, tm, a1, a2, a3, a4, a5, a6, a7, a8, a9, a10, a11, a12, a13, a14, a15, a16, a17, a18, a19, a20, a21, a22, a23, a24⟩ := u2
    refine sw_w_open (k := 2) hc (by omega) hw h2 (fun u3 h3 => ?_)
    obtain ⟨kd, wd, pa, la, mq, lc, nw, rc, km, kl, kw, kr, tc, ts, tl, tm, a1, a2, a3, a4, a5, a6, a7, a8, a9, a10, a11, a12, a13, a14, a15, a16, a17, a18, a19, a20, a21, a22, a23, a24⟩ := u3
    refine sw_w_open (k := 3) hc (by omega) hw h3 (fun u4 h4 => ?_)
    obtain ⟨kd, wd, pa, la, mq, lc, nw, rc, km, kl, kw, kr, tc, ts, tl, tm, a1, a2, a3, a4, a5, a6, a7, a8, a9, a10, a11, a12, a13, a14, a15, a16, a17, a18, a19, a20, a21, a22, a23, a24⟩ := u4
    refine nm_r (e' := nI (sw_o4 c M)) (by rw [nI_add, nI_add, nI_add]; rfl) ?_
    have hc1 := hc.1
    refine sw_beq c.1 1 rfl rfl (fun _ => hp _ h4) (fun z => ?_)
    exact sw_w_sfin hc hw hs hp h4 rfl rfl rfl z
  | succ d ih =>
    intro i l hi hl hl2
    have hi2 : i < sw_rc M := by omega
    have rk := s2 i hi2
    unfold sw_rk at rk
    obtain ⟨r1, r2, r3, r4, r5, r6, r7, r8, r9, r10⟩ := rk
    have hl3 := hl2 hi2
    have hm := hw.1
    have hb1 := sw_mulb (a := (sw_rr M i).2.2.2.2.2.1) (b := (sw_rr M i).2.2.2.1) (by omega) (by omega) (by omega) (by omega)
    have hb2 := sw_mulb (a := (sw_rr M i).2.2.2.2.2.2) (b := (sw_rr M i).2.2.2.1) (by omega) (by omega) (by omega) (by omega)
    unfold wL_sound_9
    unfold wpX_results
    dsimp only
    refine pk_le (sw_rc M) i (fun z => absurd z (by omega)) (fun _ => ?_)
    refine sw_w_result (r := (sw_rc M, sw_rr M)) (w := 3) hi2 s1 (by omega) hR ?_
    refine sw_w_result (r := (sw_rc M, sw_rr M)) (w := 4) hi2 s1 (by omega) hR ?_
    refine sw_w_result (r := (sw_rc M, sw_rr M)) (w := 5) hi2 s1 (by omega) hR ?_
    refine sw_w_result (r := (sw_rc M, sw_rr M)) (w := 6) hi2 s1 (by omega) hR ?_
    refine sw_w_result (r := (sw_rc M, sw_rr M)) (w := 2) hi2 s1 (by omega) hR ?_
    refine sw_blt (sw_rr M i).2.2.1 l rfl rfl (fun z => absurd z (by omega)) (fun _ => ?_)
    unfold wpX_mark
    dsimp only
    refine sw_blt (sw_mk M) (sw_rr M i).2.2.1 rfl rfl (fun z => absurd z (by omega)) (fun _ => ?_)
    refine sw_blt (sw_rr M i).2.2.2.1 1 rfl rfl (fun z => absurd z (by omega)) (fun _ => ?_)
    refine sw_blt (sw_rr M i).2.2.2.2.2.2 (sw_rr M i).2.2.2.2.2.1 rfl rfl (fun z => absurd z (by omega)) (fun _ => ?_)
    refine sw_blt (sw_rr M i).2.2.2.2.1 ((sw_rr M i).2.2.2.2.2.1 * (sw_rr M i).2.2.2.1) rfl (sw_mul _ _) (fun z => absurd z (by omega)) (fun _ => ?_)
    refine sw_blt ((sw_rr M i).2.2.2.2.2.2 * (sw_rr M i).2.2.2.1) (sw_rr M i).2.2.2.2.1 (sw_mul _ _) rfl (fun z => absurd z (by omega)) (fun _ => ?_)
    refine sw_w_result (r := (sw_rc M, sw_rr M)) (w := 1) hi2 s1 (by omega) hR ?_
    refine sw_blt (sw_rr M i).2.1 (sw_rr M i).2.2.1 rfl rfl (fun _ => ?_) (fun z => absurd z (by omega))
    refine nm_r (e' := sw_i (sw_sm (sw_ct (sw_rr M)) 0 (i + 1))) ?_ (nm_r (nI_1 i) ?_)
    · show sw_i (sw_sm (sw_ct (sw_rr M)) 0 i) + sw_i (sw_rr M i).2.2.2.1 = sw_i (sw_sm (sw_ct (sw_rr M)) 0 i + sw_ct (sw_rr M) (0 + i))
      rw [Nat.zero_add, sw_add]
      rfl
    · exact ih (i + 1) (sw_rr M i).2.2.1 (by omega) (by omega) (fun z => s3 i z)
theorem sw_w_sound {c : sw_C4} {E : sw_EV} {M K : sw_MM} {u : St2} {post : Int32 → St2 → Prop} (hc : sw_cok c) (hw : sw_wok c M) (hs : sw_sok c M) (h : sw_R c E M K u) (hp : ∀ u', sw_R c E M K u' → post 1 u') : wpL_sound post u (sw_i c.1) := by
  have hu := h
  refine sw_R_elim h (C := fun u => sw_R c E M K u → wpL_sound post u (sw_i c.1)) (fun km kl kw kr tc ts tl tm a1 a2 a3 a4 a5 a6 a7 a8 a9 a10 a11 a12 a13 a14 a15 a16 a17 a18 a19 a20 a21 a22 a23 a24 hE hQ hP hC hS hR hK => ?_) hu
  intro hu
  have hs2 := hs.2.1
  have hl : 0 < sw_rc M → -1000 ≤ (sw_rr M 0).2.2.1 := by
    intro z
    have := hs2 0 z
    unfold sw_rk at this
    omega
  have key := sw_w_s9 hc hw hs hp hu (sw_rc M) 0 (-1000) (Nat.zero_add _) ⟨Int.le_refl _, by decide⟩ hl
  have e0 : sw_i (sw_sm (sw_ct (sw_rr M)) 0 0) = 0 := by
    show sw_i 0 = 0
    decide
  have e1 : sw_i (-1000) = -1000 := by decide
  rw [e0, e1, nI_0] at key
  unfold wpL_sound
  dsimp only
  exact ⟨sw_rc M + 1, key⟩
end
section
/-- a sum of c values is sound: their sum, the least, the most -/
def sw_g (c s l h : Int) : Prop := l ≤ h ∧ l * c ≤ s ∧ s ≤ h * c ∧ 1 ≤ c ∧ -50 ≤ l ∧ h ≤ 50
theorem sw_g_1 {v : Int} (h1 : -50 ≤ v) (h2 : v ≤ 50) : sw_g 1 v v v := by
  unfold sw_g
  omega
theorem sw_g_add {c1 s1 l1 h1 c2 s2 l2 h2 : Int} (a : sw_g c1 s1 l1 h1) (b : sw_g c2 s2 l2 h2) : sw_g (c1 + c2) (s1 + s2) (if l2 < l1 then l2 else l1) (if h1 < h2 then h2 else h1) := by
  obtain ⟨a1, a2, a3, a4, a5, a6⟩ := a
  obtain ⟨b1, b2, b3, b4, b5, b6⟩ := b
  have L : ∀ m : Int, m ≤ l1 → m ≤ l2 → m * (c1 + c2) ≤ s1 + s2 := by
    intro m h3 h4
    have e1 : m * c1 ≤ l1 * c1 := Int.mul_le_mul_of_nonneg_right h3 (by omega)
    have e2 : m * c2 ≤ l2 * c2 := Int.mul_le_mul_of_nonneg_right h4 (by omega)
    rw [Int.mul_add]
    omega
  have H : ∀ m : Int, h1 ≤ m → h2 ≤ m → s1 + s2 ≤ m * (c1 + c2) := by
    intro m h3 h4
    have e1 : h1 * c1 ≤ m * c1 := Int.mul_le_mul_of_nonneg_right h3 (by omega)
    have e2 : h2 * c2 ≤ m * c2 := Int.mul_le_mul_of_nonneg_right h4 (by omega)
    rw [Int.mul_add]
    omega
  unfold sw_g
  refine ⟨?_, ?_, ?_, by omega, ?_, ?_⟩
  · split <;> split <;> omega
  · split
    · exact L _ (by omega) (by omega)
    · exact L _ (by omega) (by omega)
  · split
    · exact H _ (by omega) (by omega)
    · exact H _ (by omega) (by omega)
  · split <;> omega
  · split <;> omega
/-- a pane, or a sum being put together: empty, or sound -/
def sw_pk (x : sw_PP) : Prop := (x.1 = 0 ∧ x.2.1 = 0 ∧ x.2.2.1 = 0 ∧ x.2.2.2 = 0) ∨ sw_g x.1 x.2.1 x.2.2.1 x.2.2.2
theorem sw_pk_ad {x y : sw_PP} (hx : sw_pk x) (hy : sw_g y.1 y.2.1 y.2.2.1 y.2.2.2) : sw_g (sw_ad x y).1 (sw_ad x y).2.1 (sw_ad x y).2.2.1 (sw_ad x y).2.2.2 := by
  unfold sw_ad
  dsimp only
  rcases hx with ⟨e1, e2, e3, e4⟩ | hx
  · rw [if_pos (Or.inl e1), if_pos (Or.inl e1), e1, e2, Int.zero_add, Int.zero_add]
    exact hy
  · have hx1 : x.1 ≠ 0 := by
      have := hx.2.2.2.1
      omega
    have h := sw_g_add hx hy
    have e1 : (if x.1 = 0 ∨ y.2.2.1 < x.2.2.1 then y.2.2.1 else x.2.2.1) = (if y.2.2.1 < x.2.2.1 then y.2.2.1 else x.2.2.1) := by
      by_cases e : y.2.2.1 < x.2.2.1
      · rw [if_pos e, if_pos (Or.inr e)]
      · rw [if_neg e, if_neg (fun z => z.elim hx1 e)]
    have e2 : (if x.1 = 0 ∨ x.2.2.2 < y.2.2.2 then y.2.2.2 else x.2.2.2) = (if x.2.2.2 < y.2.2.2 then y.2.2.2 else x.2.2.2) := by
      by_cases e : x.2.2.2 < y.2.2.2
      · rw [if_pos e, if_pos (Or.inr e)]
      · rw [if_neg e, if_neg (fun z => z.elim hx1 e)]
    rw [e1, e2]
    exact h
theorem sw_pk_pv {x : sw_PP} {v : Int} (hx : sw_pk x) (h1 : -50 ≤ v) (h2 : v ≤ 50) : sw_g (sw_pv x v).1 (sw_pv x v).2.1 (sw_pv x v).2.2.1 (sw_pv x v).2.2.2 :=
  sw_pk_ad (y := (1, v, v, v)) hx (sw_g_1 h1 h2)
theorem sw_pk_b {x : sw_PP} (h : sw_pk x) (hn : x.1 ≤ 50) : sw_pb x := by
  unfold sw_pb
  rcases h with h | h
  · omega
  · unfold sw_g at h
    omega
theorem sw_pk_0 {x : sw_PP} (h : sw_pk x) : 0 ≤ x.1 := by
  rcases h with h | h
  · omega
  · unfold sw_g at h
    omega
theorem sw_pk_pt {p : Nat → sw_PP} {k : Nat} (hk : k < 4) (hb : ∀ j, j < 256 → sw_pk (p j)) : ∀ (d : Nat) (w : Int) (x : sw_PP), sw_pk x → sw_pk (sw_pt p k d w x) := by
  intro d
  induction d with
  | zero => intro w x hx; exact hx
  | succ d ih =>
    intro w x hx
    refine ih (w + 1) _ ?_
    unfold sw_p1d
    split
    · rename_i hc
      have hy := hb (64 * k + w.toNat) (by omega)
      refine Or.inr (sw_pk_ad hx ?_)
      rcases hy with hy | hy
      · omega
      · exact hy
    · exact hx
theorem sw_pk_tot {p : Nat → sw_PP} {k : Nat} {P w : Int} (hk : k < 4) (hb : ∀ j, j < 256 → sw_pk (p j)) : sw_pk (sw_tot p P k w) :=
  sw_pk_pt hk hb _ _ _ (Or.inl ⟨rfl, rfl, rfl, rfl⟩)
/-- the results are sound and in order, the mark being m -/
def sw_ro (m : Int) (r : sw_RS) : Prop := (∀ i, i < r.1 → sw_rk m (r.2 i)) ∧ (∀ i, i + 1 < r.1 → (r.2 i).2.2.1 ≤ (r.2 (i + 1)).2.2.1)
theorem sw_ro_m {m m' : Int} {r : sw_RS} (h : sw_ro m r) (hm : m ≤ m') : sw_ro m' r := by
  refine ⟨fun i hi => ?_, h.2⟩
  have := h.1 i hi
  unfold sw_rk at *
  omega
theorem sw_ro_add {m : Int} {r : sw_RS} {y : sw_RR} (h : sw_ro m r) (hy : sw_rk m y) (he : ∀ i, i < r.1 → (r.2 i).2.2.1 ≤ y.2.2.1) : sw_ro m (r.1 + 1, sw_u r.2 r.1 y) := by
  constructor
  · intro i hi
    have hi' : i < r.1 + 1 := hi
    show sw_rk m (sw_u r.2 r.1 y i)
    by_cases e : i = r.1
    · subst e
      rw [sw_us]
      exact hy
    · rw [sw_un e]
      exact h.1 i (by omega)
  · intro i hi
    have hi' : i + 1 < r.1 + 1 := hi
    show (sw_u r.2 r.1 y i).2.2.1 ≤ (sw_u r.2 r.1 y (i + 1)).2.2.1
    rw [sw_un (show i ≠ r.1 by omega)]
    by_cases e : i + 1 = r.1
    · rw [e, sw_us]
      exact he i (by omega)
    · rw [sw_un e]
      exact h.2 i (by omega)
theorem sw_ct_add (r : sw_RS) (y : sw_RR) : sw_sm (sw_ct (sw_u r.2 r.1 y)) 0 (r.1 + 1) = sw_sm (sw_ct r.2) 0 r.1 + y.2.2.2.1 := by
  show sw_sm (sw_ct (sw_u r.2 r.1 y)) 0 r.1 + sw_ct (sw_u r.2 r.1 y) (0 + r.1) = _
  rw [Nat.zero_add]
  have e1 : sw_ct (sw_u r.2 r.1 y) r.1 = y.2.2.2.1 := by
    unfold sw_ct
    rw [sw_us]
  rw [e1, sw_sm_sh (g := sw_ct r.2) (c := 0) r.1 (fun i hi => by unfold sw_ct; rw [sw_un (by omega)])]
/-- events of the panes -/
def sw_cn1 (p : Nat → sw_PP) : Nat → Int := fun j => (p j).1
def sw_t4 (f : Nat → Int) : Int := f 0 + f 1 + f 2 + f 3
theorem sw_t4_c {f g : Nat → Int} {k : Nat} (hk : k < 4) (h : ∀ j, j < 4 → j ≠ k → g j = f j) : sw_t4 g = sw_t4 f + (g k - f k) := by
  unfold sw_t4
  match k, hk with
  | 0, _ => rw [h 1 (by omega) (by omega), h 2 (by omega) (by omega), h 3 (by omega) (by omega)]; omega
  | 1, _ => rw [h 0 (by omega) (by omega), h 2 (by omega) (by omega), h 3 (by omega) (by omega)]; omega
  | 2, _ => rw [h 0 (by omega) (by omega), h 1 (by omega) (by omega), h 3 (by omega) (by omega)]; omega
  | 3, _ => rw [h 0 (by omega) (by omega), h 1 (by omega) (by omega), h 2 (by omega) (by omega)]; omega
/-- the windows' invariant; N events were read -/
def sw_iw (W P K mk lc nw : Int) (p : Nat → sw_PP) (r : sw_RS) (N : Int) : Prop :=
  (1 - P ≤ nw ∧ nw ≤ 64 ∧ (1 - P < nw → (nw - 1 + P) * W ≤ mk)) ∧ (∀ j, j < 256 → sw_pk (p j)) ∧ (0 ≤ lc ∧ sw_t4 (fun k => sw_sm (sw_cn1 p) (64 * k) 64) + lc = N) ∧
  (r.1 ≤ 4 * (nw - (1 - P)) ∧ ∀ i, i < r.1 → (r.2 i).2.2.1 ≤ (nw - 1 + P) * W) ∧ sw_ro mk r ∧
  (K = 0 → sw_sm (sw_ct r.2) 0 r.1 = sw_t4 (fun k => sw_sm (sw_cn1 p) (64 * k) nw.toNat))
theorem sw_iw_le {W P K mk lc nw N : Int} {p : Nat → sw_PP} {r : sw_RS} (h : sw_iw W P K mk lc nw p r N) : ∀ j, j < 256 → (p j).1 ≤ N := by
  obtain ⟨_, h2, h3, _⟩ := h
  have nn : ∀ k, k < 4 → ∀ i, i < 64 → 0 ≤ sw_cn1 p (64 * k + i) := fun k hk i hi => sw_pk_0 (h2 _ (by omega))
  have s0 := sw_sm_nn 64 (nn 0 (by omega))
  have s1 := sw_sm_nn 64 (nn 1 (by omega))
  have s2 := sw_sm_nn 64 (nn 2 (by omega))
  have s3 := sw_sm_nn 64 (nn 3 (by omega))
  have hs := h3.2
  unfold sw_t4 at hs
  dsimp only at hs
  have hl := h3.1
  intro j hj
  obtain ⟨k, i, hk, hi, rfl⟩ : ∃ k i, k < 4 ∧ i < 64 ∧ j = 64 * k + i := ⟨j / 64, j % 64, by omega, by omega, by omega⟩
  have := sw_sm_ge 64 (nn k hk) i hi
  show sw_cn1 p (64 * k + i) ≤ N
  match k, hk with
  | 0, _ => omega
  | 1, _ => omega
  | 2, _ => omega
  | 3, _ => omega
theorem sw_iw_tp {W P K mk lc nw N t v : Int} {p : Nat → sw_PP} {r : sw_RS} {k : Nat} (hW : 1 ≤ W) (hP : 1 ≤ P) (hP0 : K = 0 → P = 1) (h : sw_iw W P K mk lc nw p r N) (hk : k < 4) (ht : 0 ≤ t ∧ t ≤ 63) (hv : -50 ≤ v ∧ v ≤ 50) :
    sw_iw W P K mk (sw_tp W P mk lc p t k v).1 nw (sw_tp W P mk lc p t k v).2 r (N + 1) := by
  obtain ⟨h1, h2, h3, h4, h5, h6⟩ := h
  unfold sw_tp
  split
  · rename_i hc
    have hw0 : 0 ≤ t / W := Int.ediv_nonneg ht.1 (by omega)
    have hw1 : t / W ≤ t := Int.ediv_le_self W ht.1
    obtain ⟨j, hj⟩ : ∃ j, j = 64 * k + (t / W).toNat := ⟨_, rfl⟩
    rw [← hj]
    have hj2 : j < 256 := by omega
    have hg := sw_pk_pv (h2 j hj2) hv.1 hv.2
    have hne : ∀ i, i ≠ j → sw_cn1 (sw_u p j (sw_pv (p j) v)) i = sw_cn1 p i := by
      intro i hi
      unfold sw_cn1
      rw [sw_un hi]
    have hin : sw_cn1 (sw_u p j (sw_pv (p j) v)) j - sw_cn1 p j = 1 := by
      unfold sw_cn1
      rw [sw_us]
      show (p j).1 + 1 - (p j).1 = 1
      omega
    refine ⟨h1, fun i hi => ?_, ⟨h3.1, ?_⟩, h4, h5, fun hK => ?_⟩
    · by_cases e : i = j
      · subst e
        show sw_pk (sw_u p i (sw_pv (p i) v) i)
        rw [sw_us]
        exact Or.inr hg
      · show sw_pk (sw_u p j (sw_pv (p j) v) i)
        rw [sw_un e]
        exact h2 i hi
    · show sw_t4 (fun k => sw_sm (sw_cn1 (sw_u p j (sw_pv (p j) v))) (64 * k) 64) + lc = N + 1
      rw [sw_t4_c (f := fun k => sw_sm (sw_cn1 p) (64 * k) 64) (g := fun k => sw_sm (sw_cn1 (sw_u p j (sw_pv (p j) v))) (64 * k) 64) hk (fun i hi hik => sw_sm_o hne (by omega))]
      show sw_t4 (fun k => sw_sm (sw_cn1 p) (64 * k) 64) + (sw_sm (sw_cn1 (sw_u p j (sw_pv (p j) v))) (64 * k) 64 - sw_sm (sw_cn1 p) (64 * k) 64) + lc = N + 1
      rw [sw_sm_c (b := 64 * k) (n := 64) hne (by omega) (by omega), hin]
      have := h3.2
      omega
    · have hP1 := hP0 hK
      rw [h6 hK]
      have hlow : nw ≤ t / W := by
        have hlt : ¬ t / W < nw := by
          intro hl
          have h7 := h1.2.2 (by omega)
          have h8 : (t / W + P) * W ≤ (nw - 1 + P) * W := Int.mul_le_mul_of_nonneg_right (by omega) (by omega)
          omega
        omega
      have ext : ∀ i, i < 4 → sw_sm (sw_cn1 p) (64 * i) nw.toNat = sw_sm (sw_cn1 (sw_u p j (sw_pv (p j) v))) (64 * i) nw.toNat := by
        intro i hi
        exact (sw_sm_o hne (by omega)).symm
      unfold sw_t4
      dsimp only
      rw [ext 0 (by omega), ext 1 (by omega), ext 2 (by omega), ext 3 (by omega)]
  · refine ⟨h1, h2, ⟨?_, ?_⟩, h4, h5, h6⟩
    · show 0 ≤ lc + 1
      omega
    · show sw_t4 (fun k => sw_sm (sw_cn1 p) (64 * k) 64) + (lc + 1) = N + 1
      omega
theorem sw_tot_1 {p : Nat → sw_PP} {k : Nat} {w : Int} (hk : k < 4) (hb : ∀ j, j < 256 → sw_pk (p j)) (h0 : 0 ≤ w) (h1 : w < 64) : (sw_tot p 1 k w).1 = sw_cn1 p (64 * k + w.toNat) := by
  have hx := hb (64 * k + w.toNat) (by omega)
  show (sw_p1d p k w (0, 0, 0, 0)).1 = _
  unfold sw_p1d sw_cn1
  have := sw_pk_0 hx
  by_cases e : 0 < (p (64 * k + w.toNat)).1
  · rw [if_pos ⟨h0, h1, e⟩]
    show 0 + (p (64 * k + w.toNat)).1 = _
    omega
  · rw [if_neg (fun z => e z.2.2)]
    show (0 : Int) = _
    omega
theorem sw_iw_cn {W P K mk lc nw N : Int} {p : Nat → sw_PP} (hW : 1 ≤ W) (hP : 1 ≤ P ∧ P ≤ 4) (hP0 : K = 0 → P = 1) (hb : ∀ j, j < 256 → sw_pk (p j)) (hb2 : ∀ j, j < 256 → (p j).1 ≤ 50) (hlo : -50 ≤ (nw + P) * W) (hlo2 : -1000 ≤ nw * W) (h1 : 1 - P ≤ nw) (h2 : nw < 64) (hm : (nw + P) * W ≤ mk) (S0 : Int) :
    ∀ (d k : Nat) (r : sw_RS), k + d = 4 → r.1 ≤ 4 * (nw - (1 - P)) + k → (∀ i, i < r.1 → (r.2 i).2.2.1 ≤ (nw + P) * W) → sw_ro mk r → (K = 0 → sw_sm (sw_ct r.2) 0 r.1 = S0 + sw_sm (fun j => sw_cn1 p (64 * j + nw.toNat)) 0 k) →
    (sw_cn p W P nw d k r).1 ≤ 4 * (nw - (1 - P)) + 4 ∧ (∀ i, i < (sw_cn p W P nw d k r).1 → ((sw_cn p W P nw d k r).2 i).2.2.1 ≤ (nw + P) * W) ∧ sw_ro mk (sw_cn p W P nw d k r) ∧
      (K = 0 → sw_sm (sw_ct (sw_cn p W P nw d k r).2) 0 (sw_cn p W P nw d k r).1 = S0 + sw_sm (fun j => sw_cn1 p (64 * j + nw.toNat)) 0 4) := by
  intro d
  induction d with
  | zero =>
    intro k r hk g1 g2 g3 g4
    have ek : k = 4 := by omega
    subst ek
    exact ⟨g1, g2, g3, g4⟩
  | succ d ih =>
    intro k r hk g1 g2 g3 g4
    have hk4 : k < 4 := by omega
    have htk := sw_pk_tot (P := P) (w := nw) hk4 hb
    have htb := sw_tot_tb (w := nw) hk4 hP (fun j hj => sw_pk_b (hb j hj) (hb2 j hj))
    have hnx : K = 0 → S0 + sw_sm (fun j => sw_cn1 p (64 * j + nw.toNat)) 0 (k + 1) = S0 + sw_sm (fun j => sw_cn1 p (64 * j + nw.toNat)) 0 k + (sw_tot p P k nw).1 := by
      intro hK
      have hP1 := hP0 hK
      rw [hP1, sw_tot_1 hk4 hb (by omega) h2]
      show S0 + (sw_sm (fun j => sw_cn1 p (64 * j + nw.toNat)) 0 k + sw_cn1 p (64 * (0 + k) + nw.toNat)) = _
      rw [Nat.zero_add]
      omega
    rw [show sw_cn p W P nw (d + 1) k r = sw_cn p W P nw d (k + 1) (sw_ck p W P nw k r) from rfl]
    unfold sw_ck
    by_cases hc : 0 < (sw_tot p P k nw).1
    · rw [if_pos hc]
      have hg : sw_g (sw_tot p P k nw).1 (sw_tot p P k nw).2.1 (sw_tot p P k nw).2.2.1 (sw_tot p P k nw).2.2.2 := by
        rcases htk with z | z
        · omega
        · exact z
      unfold sw_tb at htb
      unfold sw_g at hg
      refine ih (k + 1) _ (by omega) ?_ ?_ ?_ ?_
      · show ((r.1 + 1 : Nat) : Int) ≤ _
        omega
      · intro i hi
        have hi' : i < r.1 + 1 := hi
        show (sw_u r.2 r.1 ((k : Int), nw * W, (nw + P) * W, sw_tot p P k nw) i).2.2.1 ≤ (nw + P) * W
        by_cases e : i = r.1
        · subst e
          rw [sw_us]
          exact Int.le_refl _
        · rw [sw_un e]
          exact g2 i (by omega)
      · refine sw_ro_add g3 ?_ g2
        unfold sw_rk
        dsimp only
        have hPW : 1 * 1 ≤ P * W := Int.mul_le_mul hP.1 hW (by omega) (by omega)
        have hd : (nw + P) * W = nw * W + P * W := Int.add_mul _ _ _
        omega
      · intro hK
        show sw_sm (sw_ct (sw_u r.2 r.1 ((k : Int), nw * W, (nw + P) * W, sw_tot p P k nw))) 0 (r.1 + 1) = _
        rw [sw_ct_add, hnx hK, g4 hK]
    · rw [if_neg hc]
      refine ih (k + 1) _ (by omega) (by omega) g2 g3 (fun hK => ?_)
      have := sw_pk_0 htk
      rw [hnx hK, g4 hK]
      omega
theorem sw_iw_cw {W P K mk lc N : Int} {p : Nat → sw_PP} (hW : 1 ≤ W ∧ W ≤ 8) (hP : 1 ≤ P ∧ P ≤ 4) (hP0 : K = 0 → P = 1) (hN : N ≤ 50) :
    ∀ (d : Nat) (nw : Int) (r : sw_RS), sw_iw W P K mk lc nw p r N → sw_iw W P K mk lc (sw_cw p W P mk d nw r).1 p (sw_cw p W P mk d nw r).2 N := by
  intro d
  induction d with
  | zero => intro nw r h; exact h
  | succ d ih =>
    intro nw r h
    unfold sw_cw
    split
    · rename_i hc
      refine ih _ _ ?_
      have hle := sw_iw_le h
      obtain ⟨h1, h2, h3, h4, h5, h6⟩ := h
      have hlo : 0 ≤ (nw + P) * W := Int.mul_nonneg (by omega) (by omega)
      have hlo2 : -1000 ≤ nw * W := by
        have : (-3) * W ≤ nw * W := Int.mul_le_mul_of_nonneg_right (by omega) (by omega)
        omega
      have hmono : (nw - 1 + P) * W ≤ (nw + P) * W := Int.mul_le_mul_of_nonneg_right (by omega) (by omega)
      have key := sw_iw_cn (K := K) (mk := mk) (lc := lc) (N := N) hW.1 hP hP0 h2 (fun j hj => by have := hle j hj; omega) (by omega) hlo2 h1.1 hc.1 hc.2 (sw_t4 (fun k => sw_sm (sw_cn1 p) (64 * k) nw.toNat)) 4 0 r rfl (by omega) (fun i hi => by have := h4.2 i hi; omega) h5 (fun hK => by rw [h6 hK]; show _ = _ + (0 : Int); omega)
      obtain ⟨k1, k2, k3, k4⟩ := key
      have e1 : nw + 1 - 1 + P = nw + P := by omega
      refine ⟨⟨by omega, by omega, fun _ => ?_⟩, h2, h3, ⟨by omega, fun i hi => ?_⟩, k3, fun hK => ?_⟩
      · rw [e1]
        exact hc.2
      · rw [e1]
        exact k2 i hi
      · rw [k4 hK]
        have hP1 := hP0 hK
        obtain ⟨m, hm⟩ : ∃ m : Nat, nw = m := ⟨nw.toNat, by omega⟩
        have e2 : (nw + 1).toNat = nw.toNat + 1 := by omega
        rw [e2]
        unfold sw_t4
        show _ + ((((0 + sw_cn1 p (64 * (0 + 0) + nw.toNat)) + sw_cn1 p (64 * (0 + 1) + nw.toNat)) + sw_cn1 p (64 * (0 + 2) + nw.toNat)) + sw_cn1 p (64 * (0 + 3) + nw.toNat)) = (sw_sm (sw_cn1 p) (64 * 0) nw.toNat + sw_cn1 p (64 * 0 + nw.toNat)) + (sw_sm (sw_cn1 p) (64 * 1) nw.toNat + sw_cn1 p (64 * 1 + nw.toNat)) + (sw_sm (sw_cn1 p) (64 * 2) nw.toNat + sw_cn1 p (64 * 2 + nw.toNat)) + (sw_sm (sw_cn1 p) (64 * 3) nw.toNat + sw_cn1 p (64 * 3 + nw.toNat))
        simp only [Nat.zero_add]
        omega
    · exact h
theorem sw_iw_m {W P K mk mk' lc nw N : Int} {p : Nat → sw_PP} {r : sw_RS} (h : sw_iw W P K mk lc nw p r N) (hm : mk ≤ mk') : sw_iw W P K mk' lc nw p r N := by
  obtain ⟨h1, h2, h3, h4, h5, h6⟩ := h
  exact ⟨⟨h1.1, h1.2.1, fun z => Int.le_trans (h1.2.2 z) hm⟩, h2, h3, h4, sw_ro_m h5 hm, h6⟩
end
section
/-- a session is sound -/
def sw_sk (x : sw_SS) : Prop := 0 ≤ x.1 ∧ x.1 ≤ x.2.1 ∧ x.2.1 ≤ 63 ∧ sw_g x.2.2.1 x.2.2.2.1 x.2.2.2.2.1 x.2.2.2.2.2
/-- the sessions of a key, n from b on: sound, and apart by more than W -/
def sw_ky (W : Int) (ss : Nat → sw_SS) (b n : Nat) : Prop := (∀ i, i < n → sw_sk (ss (b + i))) ∧ (∀ i, i + 1 < n → (ss (b + i)).2.1 + W < (ss (b + i + 1)).1)
def sw_cn2 (ss : Nat → sw_SS) : Nat → Int := fun j => (ss j).2.2.1
theorem sw_sk_b {x : sw_SS} (h : sw_sk x) : sw_sb x := by
  unfold sw_sk sw_g at h
  unfold sw_sb
  omega
theorem sw_ky_ext {W : Int} {ss ss' : Nat → sw_SS} {b n : Nat} (h : sw_ky W ss b n) (e : ∀ i, i < n → ss' (b + i) = ss (b + i)) : sw_ky W ss' b n := by
  constructor
  · intro i hi
    rw [e i hi]
    exact h.1 i hi
  · intro i hi
    have e2 : ss' (b + i + 1) = ss (b + i + 1) := e (i + 1) hi
    rw [e i (by omega), e2]
    exact h.2 i hi
theorem sw_ky_2 {W : Int} {ss : Nat → sw_SS} {b n : Nat} (hW : 1 ≤ W) (h : sw_ky W ss b n) : ∀ i : Nat, i < n → 2 * (i : Int) ≤ (ss (b + i)).1 := by
  intro i
  induction i with
  | zero =>
    intro hi
    have := (h.1 0 hi).1
    omega
  | succ i ih =>
    intro hi
    have h1 := ih (by omega)
    have h2 := h.2 i hi
    have h3 := (h.1 i (by omega)).2.1
    have e : b + (i + 1) = b + i + 1 := by omega
    rw [e]
    omega
theorem sw_ky_mono {W : Int} {ss : Nat → sw_SS} {b n : Nat} (hW : 1 ≤ W) (h : sw_ky W ss b n) : ∀ i : Nat, i < n → (ss b).2.1 ≤ (ss (b + i)).2.1 := by
  intro i
  induction i with
  | zero => intro hi; exact Int.le_refl _
  | succ i ih =>
    intro hi
    have h1 := ih (by omega)
    have h2 := h.2 i hi
    have h3 := (h.1 (i + 1) hi).2.1
    have e : b + (i + 1) = b + i + 1 := by omega
    rw [e] at h3 ⊢
    omega
theorem sw_ky_room {W t : Int} {ss : Nat → sw_SS} {b n i0 : Nat} (hW : 1 ≤ W) (h : sw_ky W ss b n) (hi : i0 ≤ n) (ht : 0 ≤ t ∧ t ≤ 63) (hlo : ∀ i, i < i0 → (ss (b + i)).2.1 + W < t) (hhi : i0 < n → t < (ss (b + i0)).1 - W) : n < 32 := by
  have h2 := sw_ky_2 hW h
  have ht0 : 2 * (i0 : Int) ≤ t := by
    cases i0 with
    | zero => omega
    | succ i =>
      have a1 := hlo i (by omega)
      have a2 := h2 i (by omega)
      have a3 := (h.1 i (by omega)).2.1
      omega
  by_cases hc : i0 < n
  · have st : ∀ j : Nat, i0 + j < n → 2 * ((i0 + j : Nat) : Int) + 2 ≤ (ss (b + (i0 + j))).1 := by
      intro j
      induction j with
      | zero =>
        intro hj
        have := hhi hc
        rw [Nat.add_zero]
        omega
      | succ j ih =>
        intro hj
        have a1 := ih (by omega)
        have a2 := h.2 (i0 + j) (by omega)
        have a3 := (h.1 (i0 + j) (by omega)).2.1
        have e : b + (i0 + (j + 1)) = b + (i0 + j) + 1 := by omega
        rw [e]
        omega
    have a1 := st (n - 1 - i0) (by omega)
    have e : i0 + (n - 1 - i0) = n - 1 := by omega
    rw [e] at a1
    have a2 := h.1 (n - 1) (by omega)
    have a3 := a2.2.1
    have a4 := a2.2.2.1
    omega
  · omega
theorem sw_sc_spec {ss : Nat → sw_SS} {W t : Int} : ∀ (n q : Nat), (∀ j, q ≤ j → j < sw_sc ss W t n q → (ss j).2.1 + W < t) ∧ (sw_sc ss W t n q < q + n → t ≤ (ss (sw_sc ss W t n q)).2.1 + W) := by
  intro n
  induction n with
  | zero =>
    intro q
    refine ⟨fun j h1 h2 => ?_, fun h => ?_⟩
    · have : j < q := h2
      omega
    · have : q < q + 0 := h
      omega
  | succ n ih =>
    intro q
    unfold sw_sc
    split
    · rename_i hc
      have h := ih (q + 1)
      refine ⟨fun j h1 h2 => ?_, fun h3 => h.2 (by omega)⟩
      by_cases e : j = q
      · rw [e]
        exact hc
      · exact h.1 j (by omega) h2
    · rename_i hc
      refine ⟨fun j h1 h2 => ?_, fun h3 => ?_⟩
      · omega
      · omega
/-- what a change of a key's sessions must bring: n' of them in ss' -/
def sw_kc (W mk : Int) (ss ss' : Nat → sw_SS) (b n n' : Nat) : Prop :=
  sw_ky W ss' b n' ∧ sw_sm (sw_cn2 ss') b n' = sw_sm (sw_cn2 ss) b n + 1 ∧ (∀ e, e ≤ mk → (∀ i, i < n → e ≤ (ss (b + i)).2.1 + W) → ∀ i, i < n' → e ≤ (ss' (b + i)).2.1 + W)
theorem sw_kc_ins {W mk t v : Int} {ss : Nat → sw_SS} {b n i0 : Nat} (h : sw_ky W ss b n) (hi : i0 ≤ n) (ht : 0 ≤ t ∧ t ≤ 63) (hv : -50 ≤ v ∧ v ≤ 50) (hlo : ∀ i, i < i0 → (ss (b + i)).2.1 + W < t) (hhi : i0 < n → t < (ss (b + i0)).1 - W) (hm : mk < t + W) :
    sw_kc W mk ss (sw_u (sw_up ss (b + i0) (b + n)) (b + i0) (t, t, 1, v, v, v)) b n (n + 1) := by
  obtain ⟨s2, hs2⟩ : ∃ s2, s2 = sw_u (sw_up ss (b + i0) (b + n)) (b + i0) (t, t, 1, v, v, v) := ⟨_, rfl⟩
  have g1 : ∀ i, i < i0 → s2 (b + i) = ss (b + i) := by
    intro i hi
    rw [hs2, sw_un (by omega)]
    unfold sw_up
    rw [if_neg (by omega)]
  have g2 : s2 (b + i0) = (t, t, 1, v, v, v) := by rw [hs2, sw_us]
  have g3 : ∀ i, i0 ≤ i → i < n → s2 (b + i + 1) = ss (b + i) := by
    intro i h1 h2
    rw [hs2, sw_un (by omega)]
    unfold sw_up
    rw [if_pos (by omega)]
    rfl
  rw [← hs2]
  refine ⟨⟨fun i hi2 => ?_, fun i hi2 => ?_⟩, ?_, fun e he hb i hi2 => ?_⟩
  · rcases Nat.lt_trichotomy i i0 with c | c | c
    · rw [g1 i c]
      exact h.1 i (by omega)
    · rw [c, g2]
      exact ⟨ht.1, Int.le_refl _, ht.2, sw_g_1 hv.1 hv.2⟩
    · obtain ⟨j, rfl⟩ : ∃ j, i = j + 1 := ⟨i - 1, by omega⟩
      have e : s2 (b + (j + 1)) = ss (b + j) := g3 j (by omega) (by omega)
      rw [e]
      exact h.1 j (by omega)
  · rcases Nat.lt_trichotomy i i0 with c | c | c
    · rw [g1 i c]
      by_cases c2 : i + 1 = i0
      · have e : s2 (b + i + 1) = (t, t, 1, v, v, v) := by
          rw [show b + i + 1 = b + i0 by omega]
          exact g2
        rw [e]
        exact hlo i c
      · have e : s2 (b + i + 1) = ss (b + i + 1) := g1 (i + 1) (by omega)
        rw [e]
        exact h.2 i (by omega)
    · rw [c, g2, g3 i0 (by omega) (by omega)]
      have := hhi (by omega)
      show t + W < _
      omega
    · obtain ⟨j, rfl⟩ : ∃ j, i = j + 1 := ⟨i - 1, by omega⟩
      have e1 : s2 (b + (j + 1)) = ss (b + j) := g3 j (by omega) (by omega)
      have e2 : s2 (b + (j + 1) + 1) = ss (b + j + 1) := g3 (j + 1) (by omega) (by omega)
      rw [e1, e2]
      exact h.2 j (by omega)
  · obtain ⟨r, rfl⟩ : ∃ r, n = i0 + r := ⟨n - i0, by omega⟩
    have e := sw_sm_in (f := sw_cn2 ss) (g := sw_cn2 s2) (b := b) (m := i0) (r := r) (fun i hi => by unfold sw_cn2; rw [g1 i hi]) (fun i hi => by
      unfold sw_cn2
      rw [show b + i0 + 1 + i = b + (i0 + i) + 1 by omega, g3 (i0 + i) (by omega) (by omega), Nat.add_assoc])
    rw [e]
    unfold sw_cn2
    rw [g2]
  · rcases Nat.lt_trichotomy i i0 with c | c | c
    · rw [g1 i c]
      exact hb i (by omega)
    · rw [c, g2]
      show e ≤ t + W
      omega
    · obtain ⟨j, rfl⟩ : ∃ j, i = j + 1 := ⟨i - 1, by omega⟩
      have e1 : s2 (b + (j + 1)) = ss (b + j) := g3 j (by omega) (by omega)
      rw [e1]
      exact hb j (by omega)
theorem sw_mg_g {x : sw_SS} {t v : Int} (h : sw_g x.2.2.1 x.2.2.2.1 x.2.2.2.2.1 x.2.2.2.2.2) (hv : -50 ≤ v ∧ v ≤ 50) : sw_g (sw_mg x t v).2.2.1 (sw_mg x t v).2.2.2.1 (sw_mg x t v).2.2.2.2.1 (sw_mg x t v).2.2.2.2.2 :=
  sw_g_add h (sw_g_1 hv.1 hv.2)
theorem sw_jn_g {x y : sw_SS} (h : sw_g x.2.2.1 x.2.2.2.1 x.2.2.2.2.1 x.2.2.2.2.2) (h' : sw_g y.2.2.1 y.2.2.2.1 y.2.2.2.2.1 y.2.2.2.2.2) : sw_g (sw_jn x y).2.2.1 (sw_jn x y).2.2.2.1 (sw_jn x y).2.2.2.2.1 (sw_jn x y).2.2.2.2.2 :=
  sw_g_add h h'
theorem sw_mg_t (x : sw_SS) (t v : Int) : (sw_mg x t v).1 ≤ x.1 ∧ (sw_mg x t v).1 ≤ t ∧ ((sw_mg x t v).1 = x.1 ∨ (sw_mg x t v).1 = t) ∧ x.2.1 ≤ (sw_mg x t v).2.1 ∧ t ≤ (sw_mg x t v).2.1 ∧ ((sw_mg x t v).2.1 = x.2.1 ∨ (sw_mg x t v).2.1 = t) := by
  unfold sw_mg
  dsimp only
  refine ⟨?_, ?_, ?_, ?_, ?_, ?_⟩ <;> split <;> omega
theorem sw_kc_mg {W mk t v : Int} {ss : Nat → sw_SS} {b n i0 : Nat} (h : sw_ky W ss b n) (hi : i0 < n) (ht : 0 ≤ t ∧ t ≤ 63) (hv : -50 ≤ v ∧ v ≤ 50) (hlo : ∀ i, i < i0 → (ss (b + i)).2.1 + W < t) (hhi : i0 + 1 < n → t < (ss (b + i0 + 1)).1 - W) :
    sw_kc W mk ss (sw_u ss (b + i0) (sw_mg (ss (b + i0)) t v)) b n n := by
  obtain ⟨y, hy⟩ : ∃ y, y = sw_mg (ss (b + i0)) t v := ⟨_, rfl⟩
  have hk := h.1 i0 hi
  have yt := sw_mg_t (ss (b + i0)) t v
  have yg := sw_mg_g (t := t) hk.2.2.2 hv
  have yc : y.2.2.1 = (ss (b + i0)).2.2.1 + 1 := by rw [hy]; rfl
  rw [← hy] at yt yg ⊢
  have k1 := hk.1
  have k2 := hk.2.1
  have k3 := hk.2.2.1
  have g1 : ∀ i, i ≠ i0 → sw_u ss (b + i0) y (b + i) = ss (b + i) := fun i hi => sw_un (by omega)
  have g2 : sw_u ss (b + i0) y (b + i0) = y := sw_us
  refine ⟨⟨fun i hi2 => ?_, fun i hi2 => ?_⟩, ?_, fun e he hb i hi2 => ?_⟩
  · by_cases c : i = i0
    · rw [c, g2]
      exact ⟨by omega, by omega, by omega, yg⟩
    · rw [g1 i c]
      exact h.1 i hi2
  · have hs := h.2 i hi2
    by_cases c : i = i0
    · subst c
      have e : sw_u ss (b + i) y (b + i + 1) = ss (b + i + 1) := g1 (i + 1) (by omega)
      rw [g2, e]
      have := hhi hi2
      omega
    · rw [g1 i c]
      by_cases c2 : i + 1 = i0
      · have e : sw_u ss (b + i0) y (b + i + 1) = y := by
          rw [show b + i + 1 = b + i0 by omega]
          exact g2
        rw [e]
        rw [show b + i + 1 = b + i0 by omega] at hs
        have := hlo i (by omega)
        omega
      · have e : sw_u ss (b + i0) y (b + i + 1) = ss (b + i + 1) := g1 (i + 1) c2
        rw [e]
        exact hs
  · rw [sw_sm_c (f := sw_cn2 ss) (g := sw_cn2 (sw_u ss (b + i0) y)) (k := b + i0) (fun j hj => by unfold sw_cn2; rw [sw_un hj]) (by omega) (by omega)]
    unfold sw_cn2
    rw [g2, yc]
    omega
  · have hs := hb i hi2
    by_cases c : i = i0
    · rw [c] at hs ⊢
      rw [g2]
      omega
    · rw [g1 i c]
      exact hs
theorem sw_kc_jn {W mk t v : Int} {ss : Nat → sw_SS} {b n i0 : Nat} (hW : 1 ≤ W) (h : sw_ky W ss b n) (hi : i0 + 1 < n) (ht : 0 ≤ t ∧ t ≤ 63) (hv : -50 ≤ v ∧ v ≤ 50) (hlo : ∀ i, i < i0 → (ss (b + i)).2.1 + W < t) (hhi : t ≤ (ss (b + i0)).2.1 + W) :
    sw_kc W mk ss (sw_dn (sw_u ss (b + i0) (sw_jn (sw_mg (ss (b + i0)) t v) (ss (b + i0 + 1)))) (b + i0 + 1) (b + (n - 1))) b n (n - 1) := by
  obtain ⟨y, hy⟩ : ∃ y, y = sw_jn (sw_mg (ss (b + i0)) t v) (ss (b + i0 + 1)) := ⟨_, rfl⟩
  have hk := h.1 i0 (by omega)
  have hk' : sw_sk (ss (b + i0 + 1)) := h.1 (i0 + 1) hi
  have hsep := h.2 i0 hi
  have yt := sw_mg_t (ss (b + i0)) t v
  have y1 : y.1 = (sw_mg (ss (b + i0)) t v).1 := by rw [hy]; rfl
  have y2 : y.2.1 = (ss (b + i0 + 1)).2.1 := by rw [hy]; rfl
  have yc : y.2.2.1 = (ss (b + i0)).2.2.1 + 1 + (ss (b + i0 + 1)).2.2.1 := by rw [hy]; rfl
  have yg : sw_g y.2.2.1 y.2.2.2.1 y.2.2.2.2.1 y.2.2.2.2.2 := by
    rw [hy]
    exact sw_jn_g (sw_mg_g (t := t) hk.2.2.2 hv) hk'.2.2.2
  rw [← y1] at yt
  rw [← hy]
  have k1 := hk.1
  have k2 := hk.2.1
  have k3 := hk.2.2.1
  have l1 := hk'.1
  have l2 := hk'.2.1
  have l3 := hk'.2.2.1
  obtain ⟨s2, hs2⟩ : ∃ s2, s2 = sw_dn (sw_u ss (b + i0) y) (b + i0 + 1) (b + (n - 1)) := ⟨_, rfl⟩
  have g1 : ∀ i, i < i0 → s2 (b + i) = ss (b + i) := by
    intro i hi
    rw [hs2]
    unfold sw_dn
    rw [if_neg (by omega), sw_un (by omega)]
  have g2 : s2 (b + i0) = y := by
    rw [hs2]
    unfold sw_dn
    rw [if_neg (by omega), sw_us]
  have g3 : ∀ i, i0 < i → i < n - 1 → s2 (b + i) = ss (b + i + 1) := by
    intro i h1 h2
    rw [hs2]
    unfold sw_dn
    rw [if_pos (by omega), sw_un (by omega)]
  rw [← hs2]
  refine ⟨⟨fun i hi2 => ?_, fun i hi2 => ?_⟩, ?_, fun e he hb i hi2 => ?_⟩
  · rcases Nat.lt_trichotomy i i0 with c | c | c
    · rw [g1 i c]
      exact h.1 i (by omega)
    · rw [c, g2]
      exact ⟨by omega, by omega, by omega, yg⟩
    · rw [g3 i c hi2]
      exact h.1 (i + 1) (by omega)
  · rcases Nat.lt_trichotomy i i0 with c | c | c
    · have hs := h.2 i (by omega)
      rw [g1 i c]
      by_cases c2 : i + 1 = i0
      · have e : s2 (b + i + 1) = y := by
          rw [show b + i + 1 = b + i0 by omega]
          exact g2
        rw [e]
        rw [show b + i + 1 = b + i0 by omega] at hs
        have := hlo i c
        omega
      · have e : s2 (b + i + 1) = ss (b + i + 1) := g1 (i + 1) (by omega)
        rw [e]
        exact hs
    · subst c
      have e : s2 (b + i + 1) = ss (b + i + 1 + 1) := g3 (i + 1) (by omega) hi2
      rw [g2, e, y2]
      exact h.2 (i + 1) (by omega)
    · have e : s2 (b + i + 1) = ss (b + i + 1 + 1) := g3 (i + 1) (by omega) hi2
      rw [g3 i c (by omega), e]
      exact h.2 (i + 1) (by omega)
  · obtain ⟨r, rfl⟩ : ∃ r, n = i0 + 1 + r + 1 := ⟨n - i0 - 2, by omega⟩
    have e1 := sw_sm_c (f := sw_cn2 ss) (g := sw_cn2 (sw_u ss (b + i0) y)) (b := b) (k := b + i0) (n := i0 + 1 + r + 1) (fun j hj => by unfold sw_cn2; rw [sw_un hj]) (by omega) (by omega)
    have e2 := sw_sm_out (f := sw_cn2 (sw_u ss (b + i0) y)) (g := sw_cn2 s2) (b := b) (m := i0 + 1) (r := r) (fun i hi => by
      unfold sw_cn2
      rw [hs2]
      unfold sw_dn
      rw [if_neg (by omega)]) (fun i hi => by
      unfold sw_cn2
      rw [hs2]
      unfold sw_dn
      rw [if_pos (by omega), show b + (i0 + 1) + i + 1 = b + (i0 + 1) + 1 + i by omega])
    rw [e1] at e2
    have f1 : sw_cn2 (sw_u ss (b + i0) y) (b + i0) = y.2.2.1 := by unfold sw_cn2; rw [sw_us]
    have f2 : sw_cn2 ss (b + i0) = (ss (b + i0)).2.2.1 := rfl
    have f3 : sw_cn2 (sw_u ss (b + i0) y) (b + (i0 + 1)) = (ss (b + i0 + 1)).2.2.1 := by
      unfold sw_cn2
      rw [sw_un (by omega)]
      rfl
    rw [f1, f2, f3, yc] at e2
    rw [show i0 + 1 + r + 1 - 1 = i0 + 1 + r by omega]
    omega
  · rcases Nat.lt_trichotomy i i0 with c | c | c
    · rw [g1 i c]
      exact hb i (by omega)
    · rw [c, g2, y2]
      exact hb (i0 + 1) hi
    · rw [g3 i c hi2]
      exact hb (i + 1) (by omega)
/-- the sessions' invariant; N events were read -/
def sw_is (W mk lc : Int) (sn : Nat → Nat) (ss : Nat → sw_SS) (r : sw_RS) (N : Int) : Prop :=
  (∀ k, k < 4 → sn k ≤ 32 ∧ sw_ky W ss (32 * k) (sn k)) ∧ (0 ≤ lc ∧ sw_t4 (fun k => sw_sm (sw_cn2 ss) (32 * k) (sn k)) + sw_sm (sw_ct r.2) 0 r.1 + lc = N) ∧ sw_ro mk r ∧
  (∀ k, k < 4 → ∀ i, i < sn k → ∀ q, q < r.1 → (r.2 q).2.2.1 ≤ (ss (32 * k + i)).2.1 + W)
theorem sw_is_kc {W mk lc N : Int} {sn : Nat → Nat} {ss ss' : Nat → sw_SS} {r : sw_RS} {k n' : Nat} (h : sw_is W mk lc sn ss r N) (hk : k < 4) (hn : n' ≤ 32) (hc : sw_kc W mk ss ss' (32 * k) (sn k) n') (ho : ∀ j, (j < 32 * k ∨ 32 * k + 32 ≤ j) → ss' j = ss j) :
    sw_is W mk lc (sw_u sn k n') ss' r (N + 1) := by
  obtain ⟨h1, h2, h3, h4⟩ := h
  obtain ⟨c1, c2, c3⟩ := hc
  refine ⟨fun j hj => ?_, ⟨h2.1, ?_⟩, h3, fun j hj i hi q hq => ?_⟩
  · by_cases e : j = k
    · subst e
      rw [sw_us]
      exact ⟨hn, c1⟩
    · rw [sw_un e]
      have := (h1 j hj).1
      exact ⟨this, sw_ky_ext (h1 j hj).2 (fun i hi => ho _ (by omega))⟩
  · rw [sw_t4_c (f := fun k => sw_sm (sw_cn2 ss) (32 * k) (sn k)) (g := fun j => sw_sm (sw_cn2 ss') (32 * j) (sw_u sn k n' j)) hk (fun j hj hjk => by
      show sw_sm (sw_cn2 ss') (32 * j) (sw_u sn k n' j) = sw_sm (sw_cn2 ss) (32 * j) (sn j)
      rw [sw_un hjk]
      have := (h1 j hj).1
      exact sw_sm_sh _ (fun i hi => by unfold sw_cn2; rw [ho _ (by omega)]))]
    show sw_t4 (fun k => sw_sm (sw_cn2 ss) (32 * k) (sn k)) + (sw_sm (sw_cn2 ss') (32 * k) (sw_u sn k n' k) - sw_sm (sw_cn2 ss) (32 * k) (sn k)) + sw_sm (sw_ct r.2) 0 r.1 + lc = N + 1
    rw [sw_us, c2]
    have := h2.2
    omega
  · by_cases e : j = k
    · subst e
      rw [sw_us] at hi
      have := (h3.1 q hq).2.1
      exact c3 _ this (fun i hi => h4 j hj i hi q hq) i hi
    · rw [sw_un e] at hi
      have := (h1 j hj).1
      rw [ho _ (by omega)]
      exact h4 j hj i hi q hq
theorem sw_uid {α : Type} (f : Nat → α) (k : Nat) : sw_u f k (f k) = f := by
  funext j
  unfold sw_u
  by_cases e : j = k
  · rw [if_pos e, e]
  · rw [if_neg e]
theorem sw_is_ts {W mk lc N t v : Int} {sn : Nat → Nat} {ss : Nat → sw_SS} {r : sw_RS} {k : Nat} (hW : 1 ≤ W) (h : sw_is W mk lc sn ss r N) (hk : k < 4) (ht : 0 ≤ t ∧ t ≤ 63) (hv : -50 ≤ v ∧ v ≤ 50) :
    sw_is W mk (sw_ts W mk lc sn ss t k v).1 (sw_ts W mk lc sn ss t k v).2.1 (sw_ts W mk lc sn ss t k v).2.2 r (N + 1) ∧ sw_room W sn ss t k := by
  obtain ⟨h32, hky⟩ := h.1 k hk
  have hin := sw_sc_in ss W t (sn k) (32 * k)
  obtain ⟨sp1, sp2⟩ := sw_sc_spec (ss := ss) (W := W) (t := t) (sn k) (32 * k)
  unfold sw_room sw_ts
  generalize sw_sc ss W t (sn k) (32 * k) = q at hin sp1 sp2 ⊢
  obtain ⟨i0, rfl⟩ : ∃ i0, q = 32 * k + i0 := ⟨q - 32 * k, by omega⟩
  have hi0 : i0 ≤ sn k := by omega
  have hlo : ∀ i, i < i0 → (ss (32 * k + i)).2.1 + W < t := fun i hi => sp1 _ (by omega) (by omega)
  have room : ¬ (32 * k + i0 < 32 * k + sn k ∧ (ss (32 * k + i0)).1 - W ≤ t) → sn k < 32 := by
    intro hc
    refine sw_ky_room hW hky hi0 ht hlo (fun hlt => ?_)
    have : ¬ (ss (32 * k + i0)).1 - W ≤ t := fun z => hc ⟨by omega, z⟩
    omega
  refine ⟨?_, room⟩
  unfold sw_tq
  by_cases hc : 32 * k + i0 < 32 * k + sn k ∧ (ss (32 * k + i0)).1 - W ≤ t
  · rw [if_pos hc]
    have hhi := sp2 hc.1
    by_cases hd : 32 * k + i0 + 1 < 32 * k + sn k ∧ (ss (32 * k + i0 + 1)).1 - W ≤ t
    · rw [if_pos hd]
      refine sw_is_kc h hk (by omega) (sw_kc_jn hW hky (by omega) ht hv hlo hhi) (fun j hj => ?_)
      unfold sw_dn
      dsimp only
      rw [if_neg (by omega), sw_un (by omega)]
    · rw [if_neg hd]
      have := sw_is_kc h hk h32 (sw_kc_mg (mk := mk) hky (by omega) ht hv hlo (fun hlt => by
        have : ¬ (ss (32 * k + i0 + 1)).1 - W ≤ t := fun z => hd ⟨by omega, z⟩
        omega)) (fun j hj => sw_un (by omega))
      rw [sw_uid] at this
      exact this
  · rw [if_neg hc]
    by_cases hl : t + W ≤ mk
    · rw [if_pos hl]
      obtain ⟨h1, h2, h3, h4⟩ := h
      refine ⟨h1, ⟨?_, ?_⟩, h3, h4⟩
      · show 0 ≤ lc + 1
        omega
      · show sw_t4 (fun k => sw_sm (sw_cn2 ss) (32 * k) (sn k)) + sw_sm (sw_ct r.2) 0 r.1 + (lc + 1) = N + 1
        omega
    · rw [if_neg hl]
      have hr := room hc
      refine sw_is_kc h hk (by omega) (sw_kc_ins hky hi0 ht hv hlo (fun hlt => ?_) (by omega)) (fun j hj => ?_)
      · have : ¬ (ss (32 * k + i0)).1 - W ≤ t := fun z => hc ⟨by omega, z⟩
        omega
      · dsimp only
        rw [sw_un (by omega)]
        unfold sw_up
        rw [if_neg (by omega)]
theorem sw_is_cnt {W mk lc N : Int} {sn : Nat → Nat} {ss : Nat → sw_SS} {r : sw_RS} (h : sw_is W mk lc sn ss r N) :
    (r.1 : Int) ≤ sw_sm (sw_ct r.2) 0 r.1 ∧ (sw_s4 sn : Int) ≤ sw_t4 (fun k => sw_sm (sw_cn2 ss) (32 * k) (sn k)) ∧ (∀ k, k < 4 → ∀ i, i < sn k → (ss (32 * k + i)).2.2.1 ≤ sw_t4 (fun k => sw_sm (sw_cn2 ss) (32 * k) (sn k))) ∧ (sw_s4 sn = 0 → sw_t4 (fun k => sw_sm (sw_cn2 ss) (32 * k) (sn k)) = 0) := by
  obtain ⟨h1, h2, h3, h4⟩ := h
  have c1 : ∀ k, k < 4 → ∀ i, i < sn k → 1 ≤ sw_cn2 ss (32 * k + i) := fun k hk i hi => ((h1 k hk).2.1 i hi).2.2.2.2.2.2.1
  have n0 := sw_sm_n (sn 0) (c1 0 (by omega))
  have n1 := sw_sm_n (sn 1) (c1 1 (by omega))
  have n2 := sw_sm_n (sn 2) (c1 2 (by omega))
  have n3 := sw_sm_n (sn 3) (c1 3 (by omega))
  refine ⟨sw_sm_n r.1 (fun i hi => ?_), ?_, fun k hk i hi => ?_, fun hz => ?_⟩
  · have := (h3.1 i hi).2.2.2.1
    rw [Nat.zero_add]
    exact this
  · unfold sw_s4 sw_t4
    dsimp only
    omega
  · have := sw_sm_ge (f := sw_cn2 ss) (b := 32 * k) (sn k) (fun i hi => by have := c1 k hk i hi; omega) i hi
    show sw_cn2 ss (32 * k + i) ≤ _
    unfold sw_t4
    dsimp only
    match k, hk with
    | 0, _ => omega
    | 1, _ => omega
    | 2, _ => omega
    | 3, _ => omega
  · unfold sw_s4 at hz
    unfold sw_t4
    dsimp only
    rw [show sn 0 = 0 by omega, show sn 1 = 0 by omega, show sn 2 = 0 by omega, show sn 3 = 0 by omega]
    rfl
theorem sw_is_c1 {W mk lc N : Int} {sn : Nat → Nat} {ss : Nat → sw_SS} {r : sw_RS} {k : Nat} (hW : 1 ≤ W) (hN : N ≤ 50) (h : sw_is W mk lc sn ss r N) (hG : sw_G W mk sn ss 4 (some k)) :
    sw_is W mk lc (sw_c1 W k (sn, ss, r)).1 (sw_c1 W k (sn, ss, r)).2.1 (sw_c1 W k (sn, ss, r)).2.2 N := by
  obtain ⟨g1, g2, g3, g4⟩ := hG.1 k rfl
  obtain ⟨q1, q2, q3, _⟩ := sw_is_cnt h
  obtain ⟨h1, h2, h3, h4⟩ := h
  obtain ⟨h32, hky⟩ := h1 k g1
  have hsk : sw_sk (ss (32 * k)) := hky.1 0 g2
  have hcn := q3 k g1 0 g2
  have hcn' : (ss (32 * k)).2.2.1 ≤ sw_t4 (fun k => sw_sm (sw_cn2 ss) (32 * k) (sn k)) := hcn
  have hg := hsk.2.2.2
  have hg1 := hg
  unfold sw_g at hg1
  have k1 := hsk.1
  have k2 := hsk.2.1
  have k3 := hsk.2.2.1
  obtain ⟨s2, hs2⟩ : ∃ s2, s2 = sw_dn ss (32 * k) (32 * k + (sn k - 1)) := ⟨_, rfl⟩
  have d1 : ∀ i, i < sn k - 1 → s2 (32 * k + i) = ss (32 * k + i + 1) := by
    intro i hi
    rw [hs2]
    unfold sw_dn
    rw [if_pos (by omega)]
  have d2 : ∀ j, (j < 32 * k ∨ 32 * k + 32 ≤ j) → s2 j = ss j := by
    intro j hj
    rw [hs2]
    unfold sw_dn
    rw [if_neg (by omega)]
  obtain ⟨y, hy⟩ : ∃ y : sw_RR, y = ((k : Int), (ss (32 * k)).1, (ss (32 * k)).2.1 + W, (ss (32 * k)).2.2) := ⟨_, rfl⟩
  have ye : y.2.2.1 = (ss (32 * k)).2.1 + W := by rw [hy]
  have yc : y.2.2.2.1 = (ss (32 * k)).2.2.1 := by rw [hy]
  have rk : sw_rk mk y := by
    rw [hy]
    unfold sw_rk
    dsimp only
    have := h2.1
    have := h2.2
    omega
  show sw_is W mk lc (sw_u sn k (sn k - 1)) (sw_dn ss (32 * k) (32 * k + (sn k - 1))) (r.1 + 1, sw_u r.2 r.1 ((k : Int), (ss (32 * k)).1, (ss (32 * k)).2.1 + W, (ss (32 * k)).2.2)) N
  rw [← hs2, ← hy]
  refine ⟨fun j hj => ?_, ⟨h2.1, ?_⟩, sw_ro_add h3 rk (fun i hi => ?_), fun j hj i hi q hq => ?_⟩
  · by_cases e : j = k
    · subst e
      rw [sw_us]
      refine ⟨by omega, ⟨fun i hi => ?_, fun i hi => ?_⟩⟩
      · rw [d1 i hi]
        exact hky.1 (i + 1) (by omega)
      · have e2 : s2 (32 * j + i + 1) = ss (32 * j + i + 1 + 1) := d1 (i + 1) hi
        rw [d1 i (by omega), e2]
        exact hky.2 (i + 1) (by omega)
    · rw [sw_un e]
      have := (h1 j hj).1
      exact ⟨this, sw_ky_ext (h1 j hj).2 (fun i hi => d2 _ (by omega))⟩
  · show sw_t4 (fun j => sw_sm (sw_cn2 s2) (32 * j) (sw_u sn k (sn k - 1) j)) + sw_sm (sw_ct (sw_u r.2 r.1 y)) 0 (r.1 + 1) + lc = N
    rw [sw_ct_add, yc, sw_t4_c (f := fun k => sw_sm (sw_cn2 ss) (32 * k) (sn k)) (g := fun j => sw_sm (sw_cn2 s2) (32 * j) (sw_u sn k (sn k - 1) j)) g1 (fun j hj hjk => by
      show sw_sm (sw_cn2 s2) (32 * j) (sw_u sn k (sn k - 1) j) = sw_sm (sw_cn2 ss) (32 * j) (sn j)
      rw [sw_un hjk]
      have := (h1 j hj).1
      exact sw_sm_sh _ (fun i hi => by unfold sw_cn2; rw [d2 _ (by omega)]))]
    show sw_t4 (fun k => sw_sm (sw_cn2 ss) (32 * k) (sn k)) + (sw_sm (sw_cn2 s2) (32 * k) (sw_u sn k (sn k - 1) k) - sw_sm (sw_cn2 ss) (32 * k) (sn k)) + (sw_sm (sw_ct r.2) 0 r.1 + (ss (32 * k)).2.2.1) + lc = N
    rw [sw_us]
    obtain ⟨m, hm⟩ : ∃ m, sn k = 0 + m + 1 := ⟨sn k - 1, by omega⟩
    have e := sw_sm_out (f := sw_cn2 ss) (g := sw_cn2 s2) (b := 32 * k) (m := 0) (r := m) (fun i hi => absurd hi (by omega)) (fun i hi => by
      unfold sw_cn2
      rw [Nat.add_zero, d1 i (by omega), show 32 * k + i + 1 = 32 * k + 1 + i by omega])
    rw [← hm] at e
    rw [show sn k - 1 = 0 + m by omega, e]
    have e3 : sw_cn2 ss (32 * k + 0) = (ss (32 * k)).2.2.1 := rfl
    rw [e3]
    have := h2.2
    omega
  · rw [ye]
    exact h4 k g1 0 g2 i hi
  · have hq' : q < r.1 + 1 := hq
    show (sw_u r.2 r.1 y q).2.2.1 ≤ (s2 (32 * j + i)).2.1 + W
    by_cases e : j = k
    · subst e
      rw [sw_us] at hi
      rw [d1 i hi]
      by_cases c : q = r.1
      · subst c
        rw [sw_us, ye]
        have : (ss (32 * j)).2.1 ≤ (ss (32 * j + i + 1)).2.1 := sw_ky_mono hW hky (i + 1) (by omega)
        omega
      · rw [sw_un c]
        exact h4 j g1 (i + 1) (by omega) q (by omega)
    · rw [sw_un e] at hi
      have hj32 := (h1 j hj).1
      rw [d2 _ (by omega)]
      by_cases c : q = r.1
      · subst c
        rw [sw_us, ye]
        have a1 := sw_ky_mono hW (h1 j hj).2 i hi
        by_cases c2 : (ss (32 * j)).2.1 + W ≤ mk
        · have := g4 j hj (by omega) c2
          omega
        · omega
      · rw [sw_un c]
        exact h4 j hj i hi q (by omega)
theorem sw_is_cs {W mk lc N : Int} (hW : 1 ≤ W) (hN : N ≤ 50) : ∀ (d : Nat) (x : sw_CS), sw_is W mk lc x.1 x.2.1 x.2.2 N → sw_is W mk lc (sw_cs W mk d x).1 (sw_cs W mk d x).2.1 (sw_cs W mk d x).2.2 N := by
  intro d
  induction d with
  | zero => intro x h; exact h
  | succ d ih =>
    intro x h
    have hG := sw_G_4 W mk x.1 x.2.1
    unfold sw_cs
    generalize sw_ne W mk x.1 x.2.1 = b at hG
    match b, hG with
    | none, hG => exact h
    | some k, hG => exact ih _ (sw_is_c1 (r := x.2.2) hW hN h hG)
theorem sw_is_m {W mk mk' lc N : Int} {sn : Nat → Nat} {ss : Nat → sw_SS} {r : sw_RS} (h : sw_is W mk lc sn ss r N) (hm : mk ≤ mk') : sw_is W mk' lc sn ss r N :=
  ⟨h.1, h.2.1, sw_ro_m h.2.2.1 hm, h.2.2.2⟩
end
section
/-- the invariant of a picture -/
def sw_inv (c : sw_C4) (E : sw_EV) (M : sw_MM) : Prop :=
  (-1000 ≤ sw_mk M ∧ sw_mk M ≤ 63) ∧ (∀ s, s < 3 → -1000 ≤ sw_gt M s ∧ sw_gt M s ≤ 63) ∧ (∀ s, s < 3 → sw_ps M s ≤ E.1 s ∧ E.1 s ≤ 13) ∧
  (c.1 < 2 → sw_iw c.2.1 c.2.2.1 c.1 (sw_mk M) (sw_lc M) (sw_nw M) (sw_pn M) (sw_rc M, sw_rr M) (sw_p3 M : Int)) ∧
  (¬ c.1 < 2 → sw_is c.2.1 (sw_mk M) (sw_lc M) (sw_sn M) (sw_ss M) (sw_rc M, sw_rr M) (sw_p3 M : Int))
theorem sw_inv_39 {c : sw_C4} {E : sw_EV} {M : sw_MM} (h : sw_inv c E M) : sw_p3 M ≤ 39 := by
  have h0 := h.2.2.1 0 (by omega)
  have h1 := h.2.2.1 1 (by omega)
  have h2 := h.2.2.1 2 (by omega)
  unfold sw_p3
  omega
theorem sw_inv_wok {c : sw_C4} {E : sw_EV} {M : sw_MM} (hc : sw_cok c) (h : sw_inv c E M) : sw_wok c M := by
  have h39 := sw_inv_39 h
  obtain ⟨h1, h2, h3, h4, h5⟩ := h
  obtain ⟨o1, o2, o3, o4, o5⟩ := hc
  refine ⟨h1, h2, fun z => ?_, fun z => ?_⟩
  · have hw := h4 z
    have hle := sw_iw_le hw
    obtain ⟨w1, w2, w3, w4, w5, w6⟩ := hw
    have w41 : (sw_rc M : Int) ≤ 4 * (sw_nw M - (1 - c.2.2.1)) := w4.1
    refine ⟨fun j hj => sw_pk_b (w2 j hj) ?_, by omega, by omega, by omega⟩
    have := hle j hj
    omega
  · have hs := h5 z
    obtain ⟨q1, q2, q3, q4⟩ := sw_is_cnt hs
    have q1' : (sw_rc M : Int) ≤ sw_sm (sw_ct (sw_rr M)) 0 (sw_rc M) := q1
    obtain ⟨s1, s2, s3, s4⟩ := hs
    refine ⟨⟨fun k hk => (s1 k hk).1, fun k hk i hi => sw_sk_b ((s1 k hk).2.1 i hi)⟩, ?_⟩
    have e := s2.2
    have e' : sw_t4 (fun k => sw_sm (sw_cn2 (sw_ss M)) (32 * k) (sw_sn M k)) + sw_sm (sw_ct (sw_rr M)) 0 (sw_rc M) + sw_lc M = (sw_p3 M : Int) := e
    have := s2.1
    omega
theorem sw_p3_u {ps : Nat → Nat} {s : Nat} (hs : s < 3) : sw_u ps s (ps s + 1) 0 + sw_u ps s (ps s + 1) 1 + sw_u ps s (ps s + 1) 2 = ps 0 + ps 1 + ps 2 + 1 := by
  unfold sw_u
  match s, hs with
  | 0, _ => simp; omega
  | 1, _ => simp; omega
  | 2, _ => simp; omega
theorem sw_inv_t1 {c : sw_C4} {E : sw_EV} {M : sw_MM} {s : Nat} (hc : sw_cok c) (hE : sw_eok E) (h : sw_inv c E M) (hs : s < 3) (hp : sw_ps M s < E.1 s) :
    sw_inv c E (sw_t1 c E s M) ∧ (¬ c.1 < 2 → sw_room c.2.1 (sw_sn M) (sw_ss M) (E.2.1 (20 * s + sw_ps M s)) (E.2.2.1 (20 * s + sw_ps M s))) := by
  obtain ⟨h1, h2, h3, h4, h5⟩ := h
  obtain ⟨o1, o2, o3, o4, o5⟩ := hc
  have h3s := h3 s hs
  unfold sw_t1
  obtain ⟨j, hj⟩ : ∃ j, j = 20 * s + sw_ps M s := ⟨_, rfl⟩
  rw [← hj]
  obtain ⟨b1, b2, b3⟩ := hE j (by omega)
  generalize E.2.1 j = t at b1 ⊢
  generalize E.2.2.1 j = k at b2 ⊢
  generalize E.2.2.2 j = v at b3 ⊢
  have gg : ∀ i, i < 3 → -1000 ≤ sw_u (sw_gt M) s (if sw_gt M s < t then t else sw_gt M s) i ∧ sw_u (sw_gt M) s (if sw_gt M s < t then t else sw_gt M s) i ≤ 63 := by
    intro i hi
    have h2s := h2 s hs
    by_cases e : i = s
    · rw [e, sw_us]
      split <;> omega
    · rw [sw_un e]
      exact h2 i hi
  have pp : ∀ i, i < 3 → sw_u (sw_ps M) s (sw_ps M s + 1) i ≤ E.1 i ∧ E.1 i ≤ 13 := by
    intro i hi
    by_cases e : i = s
    · rw [e, sw_us]
      omega
    · rw [sw_un e]
      exact h3 i hi
  have e3 : (((sw_u (sw_ps M) s (sw_ps M s + 1) 0 + sw_u (sw_ps M) s (sw_ps M s + 1) 1 + sw_u (sw_ps M) s (sw_ps M s + 1) 2 : Nat)) : Int) = (sw_p3 M : Int) + 1 := by
    rw [sw_p3_u hs]
    rfl
  unfold sw_tk
  by_cases z : c.1 < 2
  · rw [if_pos z]
    refine ⟨⟨h1, gg, pp, fun _ => ?_, fun z2 => absurd z z2⟩, fun z2 => absurd z z2⟩
    have hw := sw_iw_tp (t := t) (v := v) (k := k) o2.1 o3.1 (fun z2 => o5 (by omega)) (h4 z) b2 b1 b3
    rw [← e3] at hw
    exact hw
  · rw [if_neg z]
    have hw := sw_is_ts (t := t) (v := v) (k := k) o2.1 (h5 z) b2 b1 b3
    refine ⟨⟨h1, gg, pp, fun z2 => absurd z2 z, fun _ => ?_⟩, fun _ => hw.2⟩
    have hw2 := hw.1
    rw [← e3] at hw2
    exact hw2
theorem sw_inv_lk {c : sw_C4} {E : sw_EV} {M : sw_MM} (hc : sw_cok c) (h : sw_inv c E M) : sw_inv c E (sw_lk c M) ∧ sw_mk M ≤ sw_mk (sw_lk c M) := by
  have h39 := sw_inv_39 h
  obtain ⟨h1, h2, h3, h4, h5⟩ := h
  obtain ⟨o1, o2, o3, o4, o5⟩ := hc
  have hm := sw_nm_in (ig := sw_ig M) o4 h2 h1
  unfold sw_lk sw_cl
  generalize sw_nm c.2.2.2 (sw_gt M) (sw_ig M) (sw_mk M) = m at hm ⊢
  by_cases z : c.1 < 2
  · rw [if_pos z]
    refine ⟨⟨⟨hm.1, hm.2.1⟩, h2, h3, fun _ => ?_, fun z2 => absurd z z2⟩, hm.2.2⟩
    exact sw_iw_cw (N := (sw_p3 M : Int)) o2 o3 (fun z2 => o5 (by omega)) (by omega) 70 (sw_nw M) (sw_rc M, sw_rr M) (sw_iw_m (h4 z) hm.2.2)
  · rw [if_neg z]
    refine ⟨⟨⟨hm.1, hm.2.1⟩, h2, h3, fun z2 => absurd z2 z, fun _ => ?_⟩, hm.2.2⟩
    exact sw_is_cs (N := (sw_p3 M : Int)) o2.1 (by omega) 130 (sw_sn M, sw_ss M, sw_rc M, sw_rr M) (sw_is_m (h5 z) hm.2.2)
theorem sw_t1_mk (c : sw_C4) (E : sw_EV) (s : Nat) (M : sw_MM) : sw_mk (sw_t1 c E s M) = sw_mk M := by
  unfold sw_t1 sw_tk
  split <;> rfl
theorem sw_inv_r1 {c : sw_C4} {E : sw_EV} {M : sw_MM} {s : Nat} (hc : sw_cok c) (hE : sw_eok E) (h : sw_inv c E M) (hs : s < 3) (hp : sw_ps M s < E.1 s) : sw_inv c E (sw_r1 c E s M) ∧ sw_mk M ≤ sw_mk (sw_r1 c E s M) := by
  have h1 := sw_inv_lk hc (sw_inv_t1 hc hE h hs hp).1
  rw [sw_t1_mk] at h1
  exact h1
theorem sw_inv_turn {c : sw_C4} {E : sw_EV} {M : sw_MM} (hc : sw_cok c) (hE : sw_eok E) (h : sw_inv c E M) (x : Int32) : sw_inv c E (sw_turn c E x M) ∧ sw_mk M ≤ sw_mk (sw_turn c E x M) := by
  have hs := (sw_sx_e x).2
  unfold sw_turn
  split
  · unfold sw_id
    exact sw_inv_lk (M := ((sw_mk M, sw_lc M, sw_nw M), (sw_ps M, sw_gt M, sw_u (sw_ig M) (sw_sx x) (decide (sw_kx x = 6))), sw_pn M, (sw_sn M, sw_ss M), (sw_rc M, sw_rr M))) hc h
  · unfold sw_rd
    split
    · exact ⟨h, Int.le_refl _⟩
    · have h3 := h.2.2.1 _ hs
      exact sw_inv_r1 hc hE h hs (by omega)
theorem sw_inv_rok {c : sw_C4} {E : sw_EV} {M : sw_MM} (hc : sw_cok c) (hE : sw_eok E) (h : sw_inv c E M) : sw_rok c E M := by
  refine ⟨sw_inv_wok hc h, fun s hs => ?_, fun s hs hp => ?_⟩
  · have := h.2.2.1 s hs
    omega
  · have h1 := sw_inv_t1 hc hE h hs hp
    exact ⟨h1.2, sw_inv_wok hc h1.1⟩
theorem sw_sm_f (f : Nat → Int) (b d : Nat) : sw_sm f b (d + 1) = f b + sw_sm f (b + 1) d := by
  rw [show d + 1 = 1 + d by omega, sw_sm_sp, sw_sm_1]
theorem sw_on_sm {p : Nat → sw_PP} {k : Nat} (hk : k < 4) (hb : ∀ j, j < 256 → sw_pk (p j)) : ∀ (d : Nat) (w : Int) (n : Nat), 0 ≤ w → w + d ≤ 64 →
    (sw_on p 1 k d w n : Int) ≤ n + sw_sm (sw_cn1 p) (64 * k + w.toNat) d ∧ (sw_on p 1 k d w n = n → sw_sm (sw_cn1 p) (64 * k + w.toNat) d = 0) := by
  intro d
  induction d with
  | zero =>
    intro w n h0 h1
    refine ⟨?_, fun _ => rfl⟩
    show (n : Int) ≤ n + 0
    omega
  | succ d ih =>
    intro w n h0 h1
    rw [sw_sm_f]
    have ht := sw_tot_1 hk hb h0 (by omega)
    have h00 := sw_pk_0 (hb (64 * k + w.toNat) (by omega))
    have h00' : 0 ≤ sw_cn1 p (64 * k + w.toNat) := h00
    have ew : 64 * k + w.toNat + 1 = 64 * k + (w + 1).toNat := by omega
    rw [ew]
    unfold sw_on
    by_cases e : 0 < (sw_tot p 1 k w).1
    · rw [if_pos e]
      have hi := ih (w + 1) (n + 1) (by omega) (by omega)
      have hl := (sw_on_le p 1 k d (w + 1) (n + 1)).2
      refine ⟨by omega, fun z => ?_⟩
      omega
    · rw [if_neg e]
      have hi := ih (w + 1) n (by omega) (by omega)
      refine ⟨by omega, fun z => ?_⟩
      have := hi.2 z
      omega
theorem sw_inv_sok {c : sw_C4} {E : sw_EV} {M : sw_MM} (hc : sw_cok c) (h : sw_inv c E M) : sw_sok c M := by
  have h39 := sw_inv_39 h
  have hw := sw_inv_wok hc h
  obtain ⟨h1, h2, h3, h4, h5⟩ := h
  obtain ⟨o1, o2, o3, o4, o5⟩ := hc
  have hps : ∀ s, s < 3 → sw_ps M s ≤ 20 := fun s hs => by
    have := h3 s hs
    omega
  by_cases z : c.1 < 2
  · have hiw := h4 z
    obtain ⟨w1, w2, w3, w4, w5, w6⟩ := hiw
    obtain ⟨v1, v2, v3, v4⟩ := hw.2.2.1 z
    have nn : ∀ k, k < 4 → ∀ i, i < 64 → 0 ≤ sw_cn1 (sw_pn M) (64 * k + i) := fun k hk i hi => sw_pk_0 (w2 _ (by omega))
    have s0 := sw_sm_nn 64 (nn 0 (by omega))
    have s1 := sw_sm_nn 64 (nn 1 (by omega))
    have s2 := sw_sm_nn 64 (nn 2 (by omega))
    have s3 := sw_sm_nn 64 (nn 3 (by omega))
    have w3' := w3.2
    unfold sw_t4 at w3'
    dsimp only at w3'
    have w31 := w3.1
    refine ⟨by omega, w5.1, w5.2, ⟨w31, by omega⟩, hps, ?_⟩
    by_cases z1 : c.1 = 1
    · exact Or.inl z1
    · refine Or.inr ?_
      have z0 : c.1 = 0 := by omega
      have P1 := o5 z1
      have ev := w6 z0
      have ev' : sw_sm (sw_ct (sw_rr M)) 0 (sw_rc M) = sw_t4 (fun k => sw_sm (sw_cn1 (sw_pn M)) (64 * k) (sw_nw M).toNat) := ev
      have hnw : 0 ≤ sw_nw M := by
        have := w1.1
        omega
      have on : ∀ k, k < 4 → (sw_op c M k : Int) ≤ sw_sm (sw_cn1 (sw_pn M)) (64 * k + (sw_nw M).toNat) (64 - sw_nw M).toNat ∧ (sw_op c M k = 0 → sw_sm (sw_cn1 (sw_pn M)) (64 * k + (sw_nw M).toNat) (64 - sw_nw M).toNat = 0) := by
        intro k hk
        have hh := sw_on_sm hk w2 (64 - sw_nw M).toNat (sw_nw M) 0 hnw (by omega)
        unfold sw_op
        rw [if_neg (show ¬ c.1 = 2 by omega), P1]
        refine ⟨?_, hh.2⟩
        have := hh.1
        omega
      have sp : ∀ k, sw_sm (sw_cn1 (sw_pn M)) (64 * k) 64 = sw_sm (sw_cn1 (sw_pn M)) (64 * k) (sw_nw M).toNat + sw_sm (sw_cn1 (sw_pn M)) (64 * k + (sw_nw M).toNat) (64 - sw_nw M).toNat := by
        intro k
        rw [← sw_sm_sp]
        rw [show (sw_nw M).toNat + (64 - sw_nw M).toNat = 64 by omega]
      have n0 := on 0 (by omega)
      have n1 := on 1 (by omega)
      have n2 := on 2 (by omega)
      have n3 := on 3 (by omega)
      rw [sp 0, sp 1, sp 2, sp 3] at w3'
      unfold sw_t4 at ev'
      dsimp only at ev'
      unfold sw_o4
      refine ⟨by omega, ?_, by omega⟩
      by_cases q : 0 < sw_op c M 0 + sw_op c M 1 + sw_op c M 2 + sw_op c M 3
      · exact Or.inl q
      · refine Or.inr ?_
        have m0 := n0.2 (by omega)
        have m1 := n1.2 (by omega)
        have m2 := n2.2 (by omega)
        have m3 := n3.2 (by omega)
        omega
  · have his := h5 z
    obtain ⟨q1, q2, q3, q4⟩ := sw_is_cnt his
    obtain ⟨s1, s2, s3, s4⟩ := his
    have e' : sw_t4 (fun k => sw_sm (sw_cn2 (sw_ss M)) (32 * k) (sw_sn M k)) + sw_sm (sw_ct (sw_rr M)) 0 (sw_rc M) + sw_lc M = (sw_p3 M : Int) := s2.2
    have q1' : (sw_rc M : Int) ≤ sw_sm (sw_ct (sw_rr M)) 0 (sw_rc M) := q1
    have s21 := s2.1
    refine ⟨by omega, s3.1, s3.2, ⟨s21, by omega⟩, hps, Or.inr ?_⟩
    have z2 : c.1 = 2 := by omega
    have eo : sw_o4 c M = sw_s4 (sw_sn M) := by
      unfold sw_o4 sw_op sw_s4
      rw [if_pos z2, if_pos z2, if_pos z2, if_pos z2]
    rw [eo]
    refine ⟨by omega, ?_, by omega⟩
    by_cases q : 0 < sw_s4 (sw_sn M)
    · exact Or.inl q
    · refine Or.inr ?_
      have := q4 (by omega)
      omega
end
section
/-- results are only appended -/
def sw_rp (r r' : sw_RS) : Prop := r.1 ≤ r'.1 ∧ ∀ i, i < r.1 → r'.2 i = r.2 i
theorem sw_rp_0 (r : sw_RS) : sw_rp r r := ⟨Nat.le_refl _, fun _ _ => rfl⟩
theorem sw_rp_t {r r' r2 : sw_RS} (h : sw_rp r r') (h2 : sw_rp r' r2) : sw_rp r r2 :=
  ⟨Nat.le_trans h.1 h2.1, fun i hi => (h2.2 i (Nat.lt_of_lt_of_le hi h.1)).trans (h.2 i hi)⟩
theorem sw_rp_a (r : sw_RS) (y : sw_RR) : sw_rp r (r.1 + 1, sw_u r.2 r.1 y) :=
  ⟨Nat.le_succ _, fun i hi => sw_un (by omega)⟩
theorem sw_rp_cn (p : Nat → sw_PP) (W P nw : Int) : ∀ d k r, sw_rp r (sw_cn p W P nw d k r) := by
  intro d
  induction d with
  | zero => intro k r; exact sw_rp_0 r
  | succ d ih =>
    intro k r
    refine sw_rp_t ?_ (ih (k + 1) (sw_ck p W P nw k r))
    unfold sw_ck
    split
    · exact sw_rp_a _ _
    · exact sw_rp_0 _
theorem sw_rp_cw (p : Nat → sw_PP) (W P mk : Int) : ∀ d nw r, sw_rp r (sw_cw p W P mk d nw r).2 := by
  intro d
  induction d with
  | zero => intro nw r; exact sw_rp_0 r
  | succ d ih =>
    intro nw r
    unfold sw_cw
    split
    · exact sw_rp_t (sw_rp_cn p W P nw 4 0 r) (ih _ _)
    · exact sw_rp_0 r
theorem sw_rp_cs (W mk : Int) : ∀ (d : Nat) (x : sw_CS), sw_rp x.2.2 (sw_cs W mk d x).2.2 := by
  intro d
  induction d with
  | zero => intro x; exact sw_rp_0 _
  | succ d ih =>
    intro x
    unfold sw_cs
    generalize sw_ne W mk x.1 x.2.1 = b
    match b with
    | none => exact sw_rp_0 _
    | some k => exact sw_rp_t (sw_rp_a _ _) (ih (sw_c1 W k x))
theorem sw_pre_0 (M : sw_MM) : sw_pre M M := ⟨Nat.le_refl _, fun _ _ => rfl⟩
theorem sw_pre_t {K M N : sw_MM} (h : sw_pre K M) (h2 : sw_pre M N) : sw_pre K N :=
  ⟨Nat.le_trans h.1 h2.1, fun i hi => (h2.2 i (Nat.lt_of_lt_of_le hi h.1)).trans (h.2 i hi)⟩
theorem sw_pre_lk (c : sw_C4) (M : sw_MM) : sw_pre M (sw_lk c M) := by
  unfold sw_lk sw_cl
  split
  · exact sw_rp_cw _ _ _ _ 70 (sw_nw M) (sw_rc M, sw_rr M)
  · exact sw_rp_cs _ _ 130 (sw_sn M, sw_ss M, sw_rc M, sw_rr M)
theorem sw_pre_t1 (c : sw_C4) (E : sw_EV) (s : Nat) (M : sw_MM) : sw_pre M (sw_t1 c E s M) := by
  unfold sw_t1 sw_tk
  split
  · exact sw_pre_0 M
  · exact sw_pre_0 M
theorem sw_pre_turn (c : sw_C4) (E : sw_EV) (x : Int32) (M : sw_MM) : sw_pre M (sw_turn c E x M) := by
  unfold sw_turn
  split
  · unfold sw_id
    exact sw_pre_lk c ((sw_mk M, sw_lc M, sw_nw M), (sw_ps M, sw_gt M, sw_u (sw_ig M) (sw_sx x) (decide (sw_kx x = 6))), sw_pn M, (sw_sn M, sw_ss M), (sw_rc M, sw_rr M))
  · unfold sw_rd
    split
    · exact sw_pre_0 M
    · exact sw_pre_t (sw_pre_t1 c E _ M) (sw_pre_lk c _)
/-- n turns from the script's cell 37 on -/
def sw_run (c : sw_C4) (E : sw_EV) (xs : Nat → Int32) (M : sw_MM) : Nat → sw_MM
  | 0 => M
  | n + 1 => sw_turn c E (xs (37 + n)) (sw_run c E xs M n)
theorem sw_run_inv {c : sw_C4} {E : sw_EV} {xs : Nat → Int32} {M : sw_MM} (hc : sw_cok c) (hE : sw_eok E) (h : sw_inv c E M) : ∀ n, sw_inv c E (sw_run c E xs M n) := by
  intro n
  induction n with
  | zero => exact h
  | succ n ih => exact (sw_inv_turn hc hE ih _).1
theorem sw_run_pre {c : sw_C4} {E : sw_EV} {xs : Nat → Int32} {M : sw_MM} (a : Nat) : ∀ d, sw_pre (sw_run c E xs M a) (sw_run c E xs M (a + d)) := by
  intro d
  induction d with
  | zero => exact sw_pre_0 _
  | succ d ih => exact sw_pre_t ih (sw_pre_turn c E _ _)
/-- the source with the most unread events -/
theorem sw_w_f4 {c : sw_C4} {E : sw_EV} {M K : sw_MM} {kd wd pa la mq lc nw rc km kl kw kr tc ts tl tm : Int32} {a1 a2 a3 a4 a5 a6 a7 a8 a9 a10 a11 a12 a13 a14 a15 a16 a17 a18 a19 a20 a21 a22 a23 a24 : Nat → Int32} {post : Int32 → Prop} (hps : ∀ s, s < 3 → sw_ps M s ≤ E.1 s ∧ E.1 s ≤ 13) (h : sw_R c E M K (kd, wd, pa, la, mq, lc, nw, rc, km, kl, kw, kr, tc, ts, tl, tm, a1, a2, a3, a4, a5, a6, a7, a8, a9, a10, a11, a12, a13, a14, a15, a16, a17, a18, a19, a20, a21, a22, a23, a24))
    (hp : ∀ s, s < 3 → (∀ j, j < 3 → E.1 j - sw_ps M j ≤ E.1 s - sw_ps M s) → post (nI s)) :
    ∀ (d s b : Nat), s + d = 3 → b < s → (∀ j, j < s → E.1 j - sw_ps M j ≤ E.1 b - sw_ps M b) → wX_fullest_4 post kd wd pa la mq lc nw rc km kl kw kr tc ts tl tm a1 a2 a3 a4 a5 a6 a7 a8 a9 a10 a11 a12 a13 a14 a15 a16 a17 a18 a19 a20 a21 a22 a23 a24 (d + 1) (nI b) (nI s) := by
  have hE : sw_E E a1 a2 a3 a4 := h.2.2.1
  have hQ : sw_Q (sw_ps M) (sw_gt M) (sw_ig M) a5 a6 a7 := h.2.2.2.1
  intro d
  induction d with
  | zero =>
    intro s b hs hb hj
    unfold wX_fullest_4
    exact pk_le 3 s (fun _ => hp b (by omega) (fun j h3 => hj j (by omega))) (fun z => absurd z (by omega))
  | succ d ih =>
    intro s b hs hb hj
    have p1 := hps s (by omega)
    have p2 := hps b (by omega)
    unfold wX_fullest_4
    refine pk_le 3 s (fun z => absurd z (by omega)) (fun _ => ?_)
    unfold wpX_unread
    dsimp only
    rw [nI_clamp (show s < 2 ^ 31 by omega), nI_clamp (show b < 2 ^ 31 by omega), hE.1 s (by omega), hE.1 b (by omega), (hQ s (by omega)).1, (hQ b (by omega)).1, pk_sub p1.1, pk_sub p2.1]
    refine ⟨pk_in s 3 (by omega), pk_in s 3 (by omega), pk_in b 3 (by omega), pk_in b 3 (by omega), ?_⟩
    refine pk_le (E.1 s - sw_ps M s) (E.1 b - sw_ps M b) (fun z => nm_r (nI_1 s) (ih (s + 1) b (by omega) (by omega) (fun j h3 => ?_))) (fun z => nm_r (nI_1 s) (ih (s + 1) s (by omega) (by omega) (fun j h3 => ?_)))
    · by_cases e : j = s
      · rw [e]
        exact z
      · exact hj j (by omega)
    · by_cases e : j = s
      · rw [e]
        exact Nat.le_refl _
      · have := hj j (by omega)
        omega
theorem sw_w_full {c : sw_C4} {E : sw_EV} {M K : sw_MM} {u : St2} {post : Int32 → Prop} (hps : ∀ s, s < 3 → sw_ps M s ≤ E.1 s ∧ E.1 s ≤ 13) (h : sw_R c E M K u)
    (hp : ∀ s, s < 3 → (∀ j, j < 3 → E.1 j - sw_ps M j ≤ E.1 s - sw_ps M s) → post (nI s)) : wpX_fullest post u := by
  obtain ⟨kd, wd, pa, la, mq, lc, nw, rc, km, kl, kw, kr, tc, ts, tl, tm, a1, a2, a3, a4, a5, a6, a7, a8, a9, a10, a11, a12, a13, a14, a15, a16, a17, a18, a19, a20, a21, a22, a23, a24⟩ := u
  unfold wpX_fullest
  dsimp only
  refine ⟨3, sw_w_f4 hps h hp 2 1 0 rfl (by omega) (fun j hj => ?_)⟩
  rw [show j = 0 by omega]
  exact Nat.le_refl _
theorem sw_r1_p3 (c : sw_C4) (E : sw_EV) (s : Nat) (M : sw_MM) (hs : s < 3) : sw_p3 (sw_r1 c E s M) = sw_p3 M + 1 := by
  have e1 : ∀ M', sw_ps (sw_lk c M') = sw_ps M' := by
    intro M'
    unfold sw_lk sw_cl
    split <;> rfl
  have e2 : ∀ t k v M', sw_ps (sw_tk c t k v M') = sw_ps M' := by
    intro t k v M'
    unfold sw_tk
    split <;> rfl
  have e3 : sw_ps (sw_r1 c E s M) = sw_u (sw_ps M) s (sw_ps M s + 1) := by
    unfold sw_r1
    rw [e1, e2]
    rfl
  unfold sw_p3
  rw [e3, sw_p3_u hs]
theorem sw_w_ra7 {c : sw_C4} {E : sw_EV} {K : sw_MM} {post : Int32 → St2 → Prop} (hc : sw_cok c) (hE0 : sw_eok E)
    (hp : ∀ r u' M', sw_R c E M' K u' → sw_inv c E M' → (∀ s, s < 3 → sw_ps M' s = E.1 s) → post r u') :
    ∀ (d n s : Nat) (M : sw_MM) (kd wd pa la mq lc nw rc km kl kw kr tc ts tl tm : Int32) (a1 a2 a3 a4 a5 a6 a7 a8 a9 a10 a11 a12 a13 a14 a15 a16 a17 a18 a19 a20 a21 a22 a23 a24 : Nat → Int32), sw_inv c E M → s < 3 → (∀ j, j < 3 → E.1 j - sw_ps M j ≤ E.1 s - sw_ps M s) → (E.1 0 + E.1 1 + E.1 2) - sw_p3 M ≤ d → n + ((E.1 0 + E.1 1 + E.1 2) - sw_p3 M) ≤ 59 → sw_R c E M K (kd, wd, pa, la, mq, lc, nw, rc, km, kl, kw, kr, tc, ts, tl, tm, a1, a2, a3, a4, a5, a6, a7, a8, a9, a10, a11, a12, a13, a14, a15, a16, a17, a18, a19, a20, a21, a22, a23, a24) →
    wX_readAll_7 post (d + 1) (nI n) (nI s) kd wd pa la mq lc nw rc km kl kw kr tc ts tl tm a1 a2 a3 a4 a5 a6 a7 a8 a9 a10 a11 a12 a13 a14 a15 a16 a17 a18 a19 a20 a21 a22 a23 a24 := by
  intro d
  induction d with
  | zero =>
    intro n s M kd wd pa la mq lc nw rc km kl kw kr tc ts tl tm a1 a2 a3 a4 a5 a6 a7 a8 a9 a10 a11 a12 a13 a14 a15 a16 a17 a18 a19 a20 a21 a22 a23 a24 hI hs hmax hd hn h
    have hE : sw_E E a1 a2 a3 a4 := h.2.2.1
    have hQ : sw_Q (sw_ps M) (sw_gt M) (sw_ig M) a5 a6 a7 := h.2.2.2.1
    have i0 := hI.2.2.1 0 (by omega)
    have i1 := hI.2.2.1 1 (by omega)
    have i2 := hI.2.2.1 2 (by omega)
    have ip := hI.2.2.1 s hs
    have i3 : ∀ j, j < 3 → sw_ps M j = E.1 j := by
      intro j hj
      unfold sw_p3 at hd
      match j, hj with
      | 0, _ => omega
      | 1, _ => omega
      | 2, _ => omega
    unfold wX_readAll_7
    refine pk_le 60 n (fun z => absurd z (by omega)) (fun _ => ?_)
    unfold wpX_unread
    dsimp only
    rw [nI_clamp (show s < 2 ^ 31 by omega), hE.1 s hs, (hQ s hs).1, pk_sub ip.1]
    have := i3 s hs
    exact ⟨pk_in s 3 hs, pk_in s 3 hs, pk_le (E.1 s - sw_ps M s) 0 (fun _ => hp _ _ M h hI i3) (fun z => absurd z (by omega))⟩
  | succ d ih =>
    intro n s M kd wd pa la mq lc nw rc km kl kw kr tc ts tl tm a1 a2 a3 a4 a5 a6 a7 a8 a9 a10 a11 a12 a13 a14 a15 a16 a17 a18 a19 a20 a21 a22 a23 a24 hI hs hmax hd hn h
    have hE : sw_E E a1 a2 a3 a4 := h.2.2.1
    have hQ : sw_Q (sw_ps M) (sw_gt M) (sw_ig M) a5 a6 a7 := h.2.2.2.1
    have i0 := hI.2.2.1 0 (by omega)
    have i1 := hI.2.2.1 1 (by omega)
    have i2 := hI.2.2.1 2 (by omega)
    have ip := hI.2.2.1 s hs
    unfold wX_readAll_7
    refine pk_le 60 n (fun z => absurd z (by omega)) (fun _ => ?_)
    unfold wpX_unread
    dsimp only
    rw [nI_clamp (show s < 2 ^ 31 by omega), hE.1 s hs, (hQ s hs).1, pk_sub ip.1]
    refine ⟨pk_in s 3 hs, pk_in s 3 hs, pk_le (E.1 s - sw_ps M s) 0 (fun z => hp _ _ M h hI (fun j hj => ?_)) (fun z => ?_)⟩
    · have a1 := hmax j hj
      have a2 := hI.2.2.1 j hj
      omega
    · have ht := sw_inv_t1 hc hE0 hI hs (by omega)
      have hr := sw_inv_r1 hc hE0 hI hs (by omega)
      have hlt : sw_p3 (sw_r1 c E s M) = sw_p3 M + 1 := sw_r1_p3 c E s M hs
      have hle : sw_p3 (sw_r1 c E s M) ≤ E.1 0 + E.1 1 + E.1 2 := by
        have j0 := hr.1.2.2.1 0 (by omega)
        have j1 := hr.1.2.2.1 1 (by omega)
        have j2 := hr.1.2.2.1 2 (by omega)
        unfold sw_p3
        omega
      refine sw_w_r1 hc hs hE0 (by omega) (sw_inv_wok hc hI) ht.2 (sw_inv_wok hc ht.1) h (fun r u' h' => ?_)
      obtain ⟨kd, wd, pa, la, mq, lc, nw, rc, km, kl, kw, kr, tc, ts, tl, tm, a1, a2, a3, a4, a5, a6, a7, a8, a9, a10, a11, a12, a13, a14, a15, a16, a17, a18, a19, a20, a21, a22, a23, a24⟩ := u'
      refine nm_r (nI_1 n) ?_
      refine sw_w_full hr.1.2.2.1 h' (fun s' hs' hmax' => ?_)
      exact ih (n + 1) s' _ _ _ _ _ _ _ _ _ _ _ _ _ _ _ _ _ _ _ _ _ _ _ _ _ _ _ _ _ _ _ _ _ _ _ _ _ _ _ _ _ hr.1 hs' hmax' (by omega) (by omega) h'
theorem sw_w_ra {c : sw_C4} {E : sw_EV} {M K : sw_MM} {u : St2} {post : Int32 → St2 → Prop} (hc : sw_cok c) (hE0 : sw_eok E) (hI : sw_inv c E M) (h : sw_R c E M K u)
    (hp : ∀ r u' M', sw_R c E M' K u' → sw_inv c E M' → (∀ s, s < 3 → sw_ps M' s = E.1 s) → post r u') : wpX_readAll post u := by
  obtain ⟨kd, wd, pa, la, mq, lc, nw, rc, km, kl, kw, kr, tc, ts, tl, tm, a1, a2, a3, a4, a5, a6, a7, a8, a9, a10, a11, a12, a13, a14, a15, a16, a17, a18, a19, a20, a21, a22, a23, a24⟩ := u
  have i0 := hI.2.2.1 0 (by omega)
  have i1 := hI.2.2.1 1 (by omega)
  have i2 := hI.2.2.1 2 (by omega)
  unfold wpX_readAll
  dsimp only
  refine sw_w_full hI.2.2.1 h (fun s hs hmax => ⟨41, ?_⟩)
  have key := sw_w_ra7 hc hE0 hp 40 0 s M _ _ _ _ _ _ _ _ _ _ _ _ _ _ _ _ _ _ _ _ _ _ _ _ _ _ _ _ _ _ _ _ _ _ _ _ _ _ _ _ hI hs hmax (by omega) (by omega) h
  rw [nI_0] at key
  exact key
end
section
/-- an event arrives -/
def sw_ea (E : sw_EV) (s : Nat) (t : Int) (k : Nat) (v : Int) : sw_EV :=
  (sw_u E.1 s (E.1 s + 1), sw_u E.2.1 (20 * s + E.1 s) t, sw_u E.2.2.1 (20 * s + E.1 s) k, sw_u E.2.2.2 (20 * s + E.1 s) v)
theorem sw_eok_a {E : sw_EV} {s k : Nat} {t v : Int} (h : sw_eok E) (ht : 0 ≤ t ∧ t ≤ 63) (hk : k < 4) (hv : -50 ≤ v ∧ v ≤ 50) : sw_eok (sw_ea E s t k v) := by
  intro j hj
  show (0 ≤ sw_u E.2.1 (20 * s + E.1 s) t j ∧ sw_u E.2.1 (20 * s + E.1 s) t j ≤ 63) ∧ sw_u E.2.2.1 (20 * s + E.1 s) k j < 4 ∧ (-50 ≤ sw_u E.2.2.2 (20 * s + E.1 s) v j ∧ sw_u E.2.2.2 (20 * s + E.1 s) v j ≤ 50)
  by_cases e : j = 20 * s + E.1 s
  · rw [e, sw_us, sw_us, sw_us]
    exact ⟨ht, hk, hv⟩
  · rw [sw_un e, sw_un e, sw_un e]
    exact h j hj
theorem sw_w_arr {c : sw_C4} {E : sw_EV} {M K : sw_MM} {u : St2} {post : Int32 → St2 → Prop} {s k t : Nat} {v : Int} (hs : s < 3) (hk : k < 4) (ht : t < 64) (hv : -50 ≤ v ∧ v ≤ 50) (hec : E.1 s < 20) (h : sw_R c E M K u)
    (hp : ∀ r u', sw_R c (sw_ea E s (t : Int) k v) M K u' → post r u') : wpX_arrive post u (nI (256 * s + 64 * k + t)) (sw_i v) := by
  revert hp
  refine sw_R_elim h (C := fun u => (∀ r u', sw_R c (sw_ea E s (t : Int) k v) M K u' → post r u') → wpX_arrive post u (nI (256 * s + 64 * k + t)) (sw_i v)) (fun km kl kw kr tc ts tl tm a1 a2 a3 a4 a5 a6 a7 a8 a9 a10 a11 a12 a13 a14 a15 a16 a17 a18 a19 a20 a21 a22 a23 a24 hE hQ hP hC hS hR hK => ?_)
  intro hp
  have hn : 256 * s + 64 * k + t < 768 := by omega
  have e1 : nI (256 * s + 64 * k + t) / 256 = nI s := by
    have := pk_div (a := 256 * s + 64 * k + t) (d := 256) (by omega) (by omega) (by omega)
    rw [show (256 * s + 64 * k + t) / 256 = s by omega] at this
    exact this
  have e2 : nI (256 * s + 64 * k + t) - nI (256 * s + 64 * k + t) / 64 * 64 = nI t := by
    have := pk_rem (a := 256 * s + 64 * k + t) (d := 64) (by omega) (by omega) (by omega)
    rw [show (256 * s + 64 * k + t) % 64 = t by omega] at this
    exact this
  have e3 : nI (256 * s + 64 * k + t) / 64 = nI (4 * s + k) := by
    have := pk_div (a := 256 * s + 64 * k + t) (d := 64) (by omega) (by omega) (by omega)
    rw [show (256 * s + 64 * k + t) / 64 = 4 * s + k by omega] at this
    exact this
  have e4 : nI (4 * s + k) - nI (4 * s + k) / 4 * 4 = nI k := by
    have := pk_rem (a := 4 * s + k) (d := 4) (by omega) (by omega) (by omega)
    rw [show (4 * s + k) % 4 = k by omega] at this
    exact this
  have h0 : vp_in (nI s) 3 := pk_in s 3 hs
  have c0 : (nI s).toNatClampNeg = s := nI_clamp (by omega)
  obtain ⟨j, hj⟩ : ∃ j, j = 20 * s + E.1 s := ⟨_, rfl⟩
  have h60 : vp_in (nI j) 60 := pk_in j 60 (by omega)
  have c1 : (nI j).toNatClampNeg = j := nI_clamp (by omega)
  unfold wpX_arrive
  dsimp only
  rw [e2, e3, e4, e1]
  refine br_f (nI_pos (by omega)) (pk_le 768 (256 * s + 64 * k + t) (fun z => absurd z (by omega)) (fun _ => ?_))
  refine sw_blt v (-50) rfl rfl (fun z => absurd z (by omega)) (fun _ => ?_)
  refine sw_ble v 50 rfl rfl (fun _ => ⟨by decide, nm_e ⟨h0, ?_⟩⟩) (fun z => absurd z (by omega))
  rw [c0, hE.1 s hs, sw_e20, nI_1, ← hj]
  refine pk_lt (E.1 s) 20 (fun _ => ⟨h0, nm_e ⟨by decide, ?_⟩⟩) (fun z => absurd z (by omega))
  rw [c1]
  refine ⟨h60, nm_e ⟨by decide, by decide, h60, nm_e ⟨h60, nm_e ⟨h0, h0, nm_e ⟨h0, hp _ _ ?_⟩⟩⟩⟩⟩
  refine ⟨⟨rfl, rfl, rfl, rfl⟩, ⟨rfl, rfl, rfl, rfl⟩, ⟨fun i hi => ?_, fun i hi => ?_⟩, hQ, hP, hC, hS, hR, hK⟩
  · show upd a1 s (nI (E.1 s + 1)) i = nI (sw_u E.1 s (E.1 s + 1) i)
    by_cases e : i = s
    · rw [e, pk_us, sw_us]
    · rw [pk_un e, sw_un e]
      exact hE.1 i hi
  · show upd a2 j (nI t) i = sw_i (sw_u E.2.1 (20 * s + E.1 s) (t : Int) i) ∧ upd a3 j (nI k) i = nI (sw_u E.2.2.1 (20 * s + E.1 s) k i) ∧ upd a4 j (sw_i v) i = sw_i (sw_u E.2.2.2 (20 * s + E.1 s) v i)
    rw [← hj]
    by_cases e : i = j
    · rw [e, pk_us, pk_us, pk_us, sw_us, sw_us, sw_us]
      exact ⟨sw_n t, rfl, rfl⟩
    · rw [pk_un e, pk_un e, pk_un e, sw_un e, sw_un e, sw_un e]
      exact hE.2 i hi
/-- a cell of the script, or what stands for it -/
def sw_cl0 (L : Nat) (xs : Nat → Int32) (j : Nat) : Int32 := if L ≤ j then 29 * nI j + 7 else xs j
theorem sw_w_cell {L : Nat} {xs : Nat → Int32} {j : Nat} {post : Int32 → Prop} (hL : L ≤ 260) (hj : j < 1000) (hp : post (sw_cl0 L xs j)) : wpL_cell post L xs () (nI j) := by
  unfold wpL_cell
  unfold sw_cl0 at hp
  refine pk_le L j (fun z => ?_) (fun z => ⟨pk_in j L z, ?_⟩)
  · rw [if_pos z] at hp
    exact hp
  · rw [if_neg (by omega)] at hp
    rw [nI_clamp (show j < 2 ^ 31 by omega)]
    exact hp
theorem sw_w_fill2 {c : sw_C4} {M K : sw_MM} {L : Nat} {xs : Nat → Int32} {post : St2 → Prop} (hL : L ≤ 260) (hp : ∀ u' E, sw_eok E → (∀ s, s < 3 → E.1 s = 12) → sw_R c E M K u' → post u') :
    ∀ (d i : Nat) (E : sw_EV) (kd wd pa la mq lc nw rc km kl kw kr tc ts tl tm : Int32) (a1 a2 a3 a4 a5 a6 a7 a8 a9 a10 a11 a12 a13 a14 a15 a16 a17 a18 a19 a20 a21 a22 a23 a24 : Nat → Int32), i + d = 36 → sw_eok E → (∀ s, s < 3 → E.1 s = (i + 2 - s) / 3) → sw_R c E M K (kd, wd, pa, la, mq, lc, nw, rc, km, kl, kw, kr, tc, ts, tl, tm, a1, a2, a3, a4, a5, a6, a7, a8, a9, a10, a11, a12, a13, a14, a15, a16, a17, a18, a19, a20, a21, a22, a23, a24) → wL_fill_2 post L xs (d + 1) (nI i) kd wd pa la mq lc nw rc km kl kw kr tc ts tl tm a1 a2 a3 a4 a5 a6 a7 a8 a9 a10 a11 a12 a13 a14 a15 a16 a17 a18 a19 a20 a21 a22 a23 a24 := by
  intro d
  induction d with
  | zero =>
    intro i E kd wd pa la mq lc nw rc km kl kw kr tc ts tl tm a1 a2 a3 a4 a5 a6 a7 a8 a9 a10 a11 a12 a13 a14 a15 a16 a17 a18 a19 a20 a21 a22 a23 a24 hi hE hc h
    unfold wL_fill_2
    refine pk_le 36 i (fun _ => hp _ E hE (fun s hs => ?_) h) (fun z => absurd z (by omega))
    rw [hc s hs]
    omega
  | succ d ih =>
    intro i E kd wd pa la mq lc nw rc km kl kw kr tc ts tl tm a1 a2 a3 a4 a5 a6 a7 a8 a9 a10 a11 a12 a13 a14 a15 a16 a17 a18 a19 a20 a21 a22 a23 a24 hi hE hc h
    unfold wL_fill_2
    refine pk_le 36 i (fun z => absurd z (by omega)) (fun _ => ?_)
    have e0 : (1 : Int32) + nI i = nI (1 + i) := nI_add 1 i
    rw [e0]
    refine sw_w_cell hL (by omega) ?_
    generalize sw_cl0 L xs (1 + i) = r
    obtain ⟨t, ht, et⟩ := pk_andE r (m := 15) 4 (by decide)
    obtain ⟨k, hk, ek⟩ := pk_andE (r >>> ((4 : Int32) &&& 31)) (m := 3) 2 (by decide)
    obtain ⟨w, hw, ew⟩ := pk_andE (r >>> ((6 : Int32) &&& 31)) (m := 255) 8 (by decide)
    have e1 : nI i - nI i / 3 * 3 = nI (i % 3) := pk_rem (d := 3) (by omega) (by omega) (by omega)
    have e2 : nI w - nI w / 101 * 101 = nI (w % 101) := pk_rem (d := 101) (by omega) (by omega) (by omega)
    have e3 : (256 : Int32) * nI (i % 3) = nI (256 * (i % 3)) := pk_mul 256 (i % 3)
    have e4 : (64 : Int32) * nI k = nI (64 * k) := pk_mul 64 k
    have e5 : nI (w % 101) - 50 = sw_i (((w % 101 : Nat) : Int) - 50) := by
      rw [sw_n]
      exact sw_sub _ 50
    rw [et, ek, ew, e1, e2, e3, e4, e5, nI_add, nI_add]
    refine nm_e ⟨by decide, by decide, ?_⟩
    rw [nI_add]
    have hec := hc (i % 3) (by omega)
    refine sw_w_arr (s := i % 3) (k := k) (t := i + t) (by omega) hk (by omega) (by omega) (by omega) h (fun r u' h' => ?_)
    obtain ⟨kd, wd, pa, la, mq, lc, nw, rc, km, kl, kw, kr, tc, ts, tl, tm, a1, a2, a3, a4, a5, a6, a7, a8, a9, a10, a11, a12, a13, a14, a15, a16, a17, a18, a19, a20, a21, a22, a23, a24⟩ := u'
    refine nm_r (nI_1 i) (ih (i + 1) _ _ _ _ _ _ _ _ _ _ _ _ _ _ _ _ _ _ _ _ _ _ _ _ _ _ _ _ _ _ _ _ _ _ _ _ _ _ _ _ _ (by omega) (sw_eok_a hE (by omega) hk (by omega)) (fun s hs => ?_) h')
    show sw_u E.1 (i % 3) (E.1 (i % 3) + 1) s = _
    by_cases e : s = i % 3
    · rw [e, sw_us, hec]
      omega
    · rw [sw_un e, hc s hs]
      omega
theorem sw_w_fill {c : sw_C4} {E : sw_EV} {M K : sw_MM} {u : St2} {L : Nat} {xs : Nat → Int32} {post : St2 → Prop} (hL : L ≤ 260) (hE : sw_eok E) (hE0 : ∀ s, s < 3 → E.1 s = 0) (h : sw_R c E M K u)
    (hp : ∀ u' E, sw_eok E → (∀ s, s < 3 → E.1 s = 12) → sw_R c E M K u' → post u') : wpL_fill post L xs u := by
  obtain ⟨kd, wd, pa, la, mq, lc, nw, rc, km, kl, kw, kr, tc, ts, tl, tm, a1, a2, a3, a4, a5, a6, a7, a8, a9, a10, a11, a12, a13, a14, a15, a16, a17, a18, a19, a20, a21, a22, a23, a24⟩ := u
  have key := sw_w_fill2 (L := L) (xs := xs) hL hp 36 0 E _ _ _ _ _ _ _ _ _ _ _ _ _ _ _ _ _ _ _ _ _ _ _ _ _ _ _ _ _ _ _ _ _ _ _ _ _ _ _ _ rfl hE (fun s hs => by rw [hE0 s hs]; omega) h
  rw [nI_0] at key
  unfold wpL_fill
  exact ⟨37, key⟩
/-- the picture of a new object -/
def sw_m0 (c : sw_C4) : sw_MM := ((-1000, 0, 1 - c.2.2.1), (fun _ => 0, fun _ => -1000, fun _ => false), fun _ => (0, 0, 0, 0), (fun _ => 0, fun _ => (0, 0, 0, 0, 0, 0)), (0, fun _ => (0, 0, 0, 0, 0, 0, 0)))
def sw_k0 : sw_MM := ((0, 0, 0), (fun _ => 0, fun _ => 0, fun _ => false), fun _ => (0, 0, 0, 0), (fun _ => 0, fun _ => (0, 0, 0, 0, 0, 0)), (0, fun _ => (0, 0, 0, 0, 0, 0, 0)))
def sw_e0 : sw_EV := (fun _ => 0, fun _ => 0, fun _ => 0, fun _ => 0)
theorem sw_sm_z {f : Nat → Int} (h : ∀ i, f i = 0) (b : Nat) : ∀ n, sw_sm f b n = 0 := by
  intro n
  induction n with
  | zero => rfl
  | succ n ih =>
    show sw_sm f b n + f (b + n) = 0
    rw [ih, h]
    rfl
theorem sw_inv_0 {c : sw_C4} {E : sw_EV} (hc : sw_cok c) (hE : ∀ s, s < 3 → E.1 s ≤ 13) : sw_inv c E (sw_m0 c) := by
  obtain ⟨o1, o2, o3, o4, o5⟩ := hc
  have z63 : (-1000 : Int) ≤ 63 := by decide
  refine ⟨⟨Int.le_refl _, z63⟩, fun s hs => ⟨Int.le_refl _, z63⟩, fun s hs => ⟨Nat.zero_le _, hE s hs⟩, fun z => ?_, fun z => ?_⟩
  · have z1 : ∀ b n, sw_sm (sw_cn1 (sw_pn (sw_m0 c))) b n = 0 := fun b n => sw_sm_z (fun i => rfl) b n
    refine ⟨⟨Int.le_refl _, ?_, fun z2 => ?_⟩, fun j hj => Or.inl ⟨rfl, rfl, rfl, rfl⟩, ⟨Int.le_refl _, ?_⟩, ⟨?_, fun i hi => absurd hi (Nat.not_lt_zero i)⟩, ⟨fun i hi => absurd hi (Nat.not_lt_zero i), fun i hi => absurd hi (Nat.not_lt_zero _)⟩, fun z2 => ?_⟩
    · show 1 - c.2.2.1 ≤ 64
      omega
    · have : 1 - c.2.2.1 < 1 - c.2.2.1 := z2
      omega
    · unfold sw_t4
      dsimp only
      rw [z1, z1, z1, z1]
      rfl
    · show (0 : Int) ≤ 4 * (1 - c.2.2.1 - (1 - c.2.2.1))
      omega
    · unfold sw_t4
      dsimp only
      rw [z1, z1, z1, z1]
      rfl
  · refine ⟨fun k hk => ⟨Nat.zero_le _, ⟨fun i hi => absurd hi (Nat.not_lt_zero i), fun i hi => absurd hi (Nat.not_lt_zero _)⟩⟩, ⟨Int.le_refl _, ?_⟩, ⟨fun i hi => absurd hi (Nat.not_lt_zero i), fun i hi => absurd hi (Nat.not_lt_zero _)⟩, fun k hk i hi => absurd hi (Nat.not_lt_zero i)⟩
    rfl
theorem sw_w_i334 {c : sw_C4} {post : St2 → Prop} {mc ms kc ks : Nat} (hp : ∀ u', sw_R c sw_e0 (sw_m0 c) (sw_m0 c) u' → post u') :
    ∃ fu, wX_init_334 post mc ms kc ks (sw_i c.1) (sw_i c.2.1) (sw_i c.2.2.1) (sw_i c.2.2.2) (-1000) 0 (sw_i (1 - c.2.2.1)) 0 0 0 0 0 0 0 0 0 fu 0 (fun _ => 0) (fun _ => 0) (fun _ => 0) (fun _ => 0) (fun _ => 0) (fun _ => 0) (fun _ => 0) (fun _ => 0) (fun _ => 0) (fun _ => 0) (fun _ => 0) (fun _ => 0) (fun _ => 0) (fun _ => 0) (fun _ => 0) (fun _ => 0) (fun _ => 0) (fun _ => 0) (fun _ => 0) (fun _ => 0) (fun _ => 0) (fun _ => 0) (fun _ => 0) (fun _ => 0) := by
  refine pk_loop (fun f i b => wX_init_334 post mc ms kc ks (sw_i c.1) (sw_i c.2.1) (sw_i c.2.2.1) (sw_i c.2.2.2) (-1000) 0 (sw_i (1 - c.2.2.1)) 0 0 0 0 0 0 0 0 0 f (nI i) (fun _ => 0) (fun _ => 0) (fun _ => 0) (fun _ => 0) (fun _ => 0) b (fun _ => 0) (fun _ => 0) (fun _ => 0) (fun _ => 0) (fun _ => 0) (fun _ => 0) (fun _ => 0) (fun _ => 0) (fun _ => 0) (fun _ => 0) (fun _ => 0) (fun _ => 0) (fun _ => 0) (fun _ => 0) (fun _ => 0) (fun _ => 0) (fun _ => 0) (fun _ => 0))
    (fun i b => ∀ j, j < i → b j = sw_i (-1000)) 3 0 (fun _ => 0) (by omega) (fun k hk => absurd hk (by omega)) ?_ ?_
  · intro f b hb
    show wX_init_334 post mc ms kc ks (sw_i c.1) (sw_i c.2.1) (sw_i c.2.2.1) (sw_i c.2.2.2) (-1000) 0 (sw_i (1 - c.2.2.1)) 0 0 0 0 0 0 0 0 0 (f + 1) (nI 3) (fun _ => 0) (fun _ => 0) (fun _ => 0) (fun _ => 0) (fun _ => 0) b (fun _ => 0) (fun _ => 0) (fun _ => 0) (fun _ => 0) (fun _ => 0) (fun _ => 0) (fun _ => 0) (fun _ => 0) (fun _ => 0) (fun _ => 0) (fun _ => 0) (fun _ => 0) (fun _ => 0) (fun _ => 0) (fun _ => 0) (fun _ => 0) (fun _ => 0) (fun _ => 0)
    unfold wX_init_334
    refine pk_le 3 3 (fun _ => ?_) (fun z => absurd z (by omega))
    refine sw_w_keep (c := c) (E := sw_e0) (M := sw_m0 c) (K := sw_k0) ?_ (fun r u' h' => ?_)
    · have z0 : (0 : Int32) = sw_i 0 := by decide
      have z1 : (-1000 : Int32) = sw_i (-1000) := by decide
      have z2 : (0 : Int32) = nI 0 := nI_0.symm
      refine ⟨⟨rfl, rfl, rfl, rfl⟩, ⟨z1, z0, rfl, z2⟩, ⟨fun s hs => z2, fun j hj => ⟨z0, z2, z0⟩⟩, fun s hs => ⟨z2, hb s hs, rfl⟩, fun j hj => ⟨z0, z0, z0, z0⟩, fun k hk => z2, fun j hj => ⟨z0, z0, z0, z0, z0, z0⟩, fun i hi => absurd hi (Nat.not_lt_zero i), ?_⟩
      exact ⟨z0, z0, z0, z2, fun s hs => ⟨z2, z0, rfl⟩, fun j hj => ⟨z0, z0, z0, z0⟩, ⟨fun j hj => ⟨z0, z0, z0, z0, z0, z0⟩, fun k hk => z2⟩⟩
    · obtain ⟨kd, wd, pa, la, mq, lc, nw, rc, km, kl, kw, kr, tc, ts, tl, tm, a1, a2, a3, a4, a5, a6, a7, a8, a9, a10, a11, a12, a13, a14, a15, a16, a17, a18, a19, a20, a21, a22, a23, a24⟩ := u'
      exact hp _ h'
  · intro f i b hi hb hw
    show wX_init_334 post mc ms kc ks (sw_i c.1) (sw_i c.2.1) (sw_i c.2.2.1) (sw_i c.2.2.2) (-1000) 0 (sw_i (1 - c.2.2.1)) 0 0 0 0 0 0 0 0 0 (f + 1) (nI i) (fun _ => 0) (fun _ => 0) (fun _ => 0) (fun _ => 0) (fun _ => 0) b (fun _ => 0) (fun _ => 0) (fun _ => 0) (fun _ => 0) (fun _ => 0) (fun _ => 0) (fun _ => 0) (fun _ => 0) (fun _ => 0) (fun _ => 0) (fun _ => 0) (fun _ => 0) (fun _ => 0) (fun _ => 0) (fun _ => 0) (fun _ => 0) (fun _ => 0) (fun _ => 0)
    unfold wX_init_334
    rw [nI_clamp (show i < 2 ^ 31 by omega)]
    refine pk_le 3 i (fun z => absurd z (by omega)) (fun _ => ⟨pk_in i 3 hi, nm_e (nm_r (nI_1 i) (hw _ ?_))⟩)
    intro j hj
    by_cases e : j = i
    · rw [e, pk_us]
      decide
    · rw [pk_un e]
      exact hb j (by omega)
theorem sw_w_i284 {K W P : Int} {Q : Nat} {post : St2 → Prop} {mc ms kc ks : Nat} (hQ : Q ≤ 20) (hp : ∀ u', sw_R (K, W, P, (Q : Int)) sw_e0 (sw_m0 (K, W, P, (Q : Int))) (sw_m0 (K, W, P, (Q : Int))) u' → post u') :
    wX_init_284 post mc ms (nI Q) (sw_i P) kc ks (sw_i K) (sw_i W) 0 0 0 0 0 0 0 0 0 0 0 0 0 0 (fun _ => 0) (fun _ => 0) (fun _ => 0) (fun _ => 0) (fun _ => 0) (fun _ => 0) (fun _ => 0) (fun _ => 0) (fun _ => 0) (fun _ => 0) (fun _ => 0) (fun _ => 0) (fun _ => 0) (fun _ => 0) (fun _ => 0) (fun _ => 0) (fun _ => 0) (fun _ => 0) (fun _ => 0) (fun _ => 0) (fun _ => 0) (fun _ => 0) (fun _ => 0) (fun _ => 0) := by
  unfold wX_init_284
  refine pk_le 0 Q (fun _ => pk_le Q 20 (fun _ => ?_) (fun z => absurd z (by omega))) (fun z => absurd z (by omega))
  unfold wX_init_311
  rw [sw_n Q]
  exact nm_r (sw_sub 1 P) (sw_w_i334 (c := (K, W, P, (Q : Int))) hp)
theorem sw_w_init {K W P Q : Nat} {post : St2 → Prop} {mc ms : Nat} (hK : K ≤ 2) (hW : 1 ≤ W ∧ W ≤ 8) (hP : 1 ≤ P ∧ P ≤ 4) (hQ : Q ≤ 20) (hmc : 24 ≤ mc) (hms : 5893 ≤ ms)
    (hp : ∀ u', sw_R ((K : Int), (W : Int), (if K = 1 then (P : Int) else 1), (Q : Int)) sw_e0 (sw_m0 ((K : Int), (W : Int), (if K = 1 then (P : Int) else 1), (Q : Int))) (sw_m0 ((K : Int), (W : Int), (if K = 1 then (P : Int) else 1), (Q : Int))) u' → post u') :
    wpX_init post mc ms (0, 0, 0, 0, 0, 0, 0, 0, 0, 0, 0, 0, 0, 0, 0, 0) (nI K) (nI W) (nI P) (nI Q) := by
  unfold wpX_init
  dsimp only
  refine ⟨by omega, by omega, by omega, by omega, by omega, by omega, by omega, by omega, by omega, by omega, by omega, by omega, by omega, by omega, by omega, by omega, by omega, by omega, by omega, by omega, by omega, by omega, by omega, by omega, by omega, by omega, by omega, by omega, by omega, by omega, by omega, by omega, by omega, by omega, by omega, by omega, by omega, by omega, by omega, by omega, by omega, by omega, by omega, by omega, by omega, by omega, by omega, by omega, ?_⟩
  refine pk_le 0 K (fun _ => pk_le K 2 (fun _ => ?_) (fun z => absurd z (by omega))) (fun z => absurd z (by omega))
  unfold wX_init_220
  refine pk_le 1 W (fun _ => pk_le W 8 (fun _ => ?_) (fun z => absurd z (by omega))) (fun z => absurd z (by omega))
  unfold wX_init_245
  refine pk_le 1 P (fun _ => pk_le P 4 (fun _ => ?_) (fun z => absurd z (by omega))) (fun z => absurd z (by omega))
  unfold wX_init_267
  refine pk_eq K 1 (fun z => ?_) (fun z => ?_)
  · rw [if_pos z] at hp
    rw [sw_n K, sw_n W, sw_n P]
    exact sw_w_i284 hQ hp
  · rw [if_neg z] at hp
    rw [sw_n K, sw_n W]
    exact sw_w_i284 hQ hp
end
section
theorem sw_w_make {L : Nat} {xs : Nat → Int32} {post : St2 → Prop} {mc ms : Nat} (hL : L ≤ 260) (hmc : 25 ≤ mc) (hms : 5933 ≤ ms)
    (hp : ∀ (c : sw_C4) u', sw_cok c → ((sw_cl0 L xs 0 &&& 255) - (sw_cl0 L xs 0 &&& 255) / 3 * 3) = sw_i c.1 → sw_R c sw_e0 (sw_m0 c) (sw_m0 c) u' → post u') : wpL_make post mc ms L xs () := by
  unfold wpL_make
  refine sw_w_cell (j := 0) hL (by omega) ?_
  generalize sw_cl0 L xs 0 = r at hp ⊢
  obtain ⟨k, hk, ek⟩ := pk_andE r (m := 255) 8 (by decide)
  obtain ⟨w, hw, ew⟩ := pk_andE (r >>> ((8 : Int32) &&& 31)) (m := 7) 3 (by decide)
  obtain ⟨p, hp2, ep⟩ := pk_andE (r >>> ((11 : Int32) &&& 31)) (m := 3) 2 (by decide)
  obtain ⟨q, hq, eq⟩ := pk_andE (r >>> ((13 : Int32) &&& 31)) (m := 255) 8 (by decide)
  have e1 : nI k - nI k / 3 * 3 = nI (k % 3) := pk_rem (d := 3) (by omega) (by omega) (by omega)
  have e2 : nI q - nI q / 21 * 21 = nI (q % 21) := pk_rem (d := 21) (by omega) (by omega) (by omega)
  have e3 : (1 : Int32) + nI w = nI (1 + w) := nI_add 1 w
  have e4 : (1 : Int32) + nI p = nI (1 + p) := nI_add 1 p
  rw [ek, e1] at hp
  rw [ek, ew, ep, eq, e1, e2, e3, e4]
  refine ⟨by omega, by omega, by decide, by decide, mc - 1, ms - 40, by omega, by omega, ?_⟩
  refine sw_w_init (by omega) (by omega) (by omega) (by omega) (by omega) (by omega) (fun u' h' => ?_)
  obtain ⟨kd, wd, pa, la, mq, lc, nw, rc, km, kl, kw, kr, tc, ts, tl, tm, a1, a2, a3, a4, a5, a6, a7, a8, a9, a10, a11, a12, a13, a14, a15, a16, a17, a18, a19, a20, a21, a22, a23, a24⟩ := u'
  refine hp _ _ ?_ (sw_n _) h'
  refine ⟨⟨by dsimp only; omega, by dsimp only; omega⟩, ⟨by dsimp only; omega, by dsimp only; omega⟩, ?_, ⟨by dsimp only; omega, by dsimp only; omega⟩, ?_⟩
  · dsimp only
    split <;> omega
  · dsimp only
    intro z
    rw [if_neg (by omega)]
theorem sw_w_results {c : sw_C4} {E : sw_EV} {M K : sw_MM} {u : St2} {post : Int32 → Prop} (h : sw_R c E M K u) (hp : post (nI (sw_rc M))) : wpX_results post u := by
  revert hp
  refine sw_R_elim h (C := fun u => post (nI (sw_rc M)) → wpX_results post u) (fun km kl kw kr tc ts tl tm a1 a2 a3 a4 a5 a6 a7 a8 a9 a10 a11 a12 a13 a14 a15 a16 a17 a18 a19 a20 a21 a22 a23 a24 hE hQ hP hC hS hR hK => ?_)
  intro hp
  exact hp
theorem sw_w_late {c : sw_C4} {E : sw_EV} {M K : sw_MM} {u : St2} {post : Int32 → Prop} (h : sw_R c E M K u) (hp : post (sw_i (sw_lc M))) : wpX_late post u := by
  revert hp
  refine sw_R_elim h (C := fun u => post (sw_i (sw_lc M)) → wpX_late post u) (fun km kl kw kr tc ts tl tm a1 a2 a3 a4 a5 a6 a7 a8 a9 a10 a11 a12 a13 a14 a15 a16 a17 a18 a19 a20 a21 a22 a23 a24 hE hQ hP hC hS hR hK => ?_)
  intro hp
  exact hp
theorem sw_w_mark {c : sw_C4} {E : sw_EV} {M K : sw_MM} {u : St2} {post : Int32 → Prop} (h : sw_R c E M K u) (hp : post (sw_i (sw_mk M))) : wpX_mark post u := by
  revert hp
  refine sw_R_elim h (C := fun u => post (sw_i (sw_mk M)) → wpX_mark post u) (fun km kl kw kr tc ts tl tm a1 a2 a3 a4 a5 a6 a7 a8 a9 a10 a11 a12 a13 a14 a15 a16 a17 a18 a19 a20 a21 a22 a23 a24 hE hQ hP hC hS hR hK => ?_)
  intro hp
  exact hp
theorem sw_w_375 {c : sw_C4} {K : sw_MM} {post : Int32 → Prop} {L : Nat} {xs : Nat → Int32} {kc ks : Nat} (hc : sw_cok c) (hp : post 1) :
    ∀ (d i : Nat) (E : sw_EV) (M : sw_MM) (kd wd pa la mq lc nw rc km kl kw kr tc ts tl tm : Int32) (a1 a2 a3 a4 a5 a6 a7 a8 a9 a10 a11 a12 a13 a14 a15 a16 a17 a18 a19 a20 a21 a22 a23 a24 : Nat → Int32), i + d = 3 → sw_eok E → (∀ s, s < 3 → E.1 s = if s < i then 13 else 12) → sw_inv c E M → sw_R c E M K (kd, wd, pa, la, mq, lc, nw, rc, km, kl, kw, kr, tc, ts, tl, tm, a1, a2, a3, a4, a5, a6, a7, a8, a9, a10, a11, a12, a13, a14, a15, a16, a17, a18, a19, a20, a21, a22, a23, a24) → wL_law_375 post L xs (sw_i c.1) kc ks (d + 1) (nI i) kd wd pa la mq lc nw rc km kl kw kr tc ts tl tm a1 a2 a3 a4 a5 a6 a7 a8 a9 a10 a11 a12 a13 a14 a15 a16 a17 a18 a19 a20 a21 a22 a23 a24 := by
  intro d
  induction d with
  | zero =>
    intro i E M kd wd pa la mq lc nw rc km kl kw kr tc ts tl tm a1 a2 a3 a4 a5 a6 a7 a8 a9 a10 a11 a12 a13 a14 a15 a16 a17 a18 a19 a20 a21 a22 a23 a24 hi hE he hI h
    have ei : i = 3 := by omega
    subst ei
    unfold wL_law_375
    refine pk_le 3 3 (fun _ => ?_) (fun z => absurd z (by omega))
    refine sw_w_ra hc hE hI h (fun r u' M' h' hI' hall => ?_)
    obtain ⟨kd, wd, pa, la, mq, lc, nw, rc, km, kl, kw, kr, tc, ts, tl, tm, a1, a2, a3, a4, a5, a6, a7, a8, a9, a10, a11, a12, a13, a14, a15, a16, a17, a18, a19, a20, a21, a22, a23, a24⟩ := u'
    refine sw_w_sound hc (sw_inv_wok hc hI') (sw_inv_sok hc hI') h' (fun u2 h2 => ?_)
    obtain ⟨kd, wd, pa, la, mq, lc, nw, rc, km, kl, kw, kr, tc, ts, tl, tm, a1, a2, a3, a4, a5, a6, a7, a8, a9, a10, a11, a12, a13, a14, a15, a16, a17, a18, a19, a20, a21, a22, a23, a24⟩ := u2
    refine br_f (by decide) ?_
    refine sw_w_pos (s := 0) (by omega) h2 ?_
    rw [hall 0 (by omega), he 0 (by omega), if_pos (by omega)]
    refine br_t rfl ?_
    refine sw_w_mark h2 ?_
    have hm := hI'.1
    exact sw_blt 63 (sw_mk M') rfl rfl (fun z => absurd z (by omega)) (fun _ => hp)
  | succ d ih =>
    intro i E M kd wd pa la mq lc nw rc km kl kw kr tc ts tl tm a1 a2 a3 a4 a5 a6 a7 a8 a9 a10 a11 a12 a13 a14 a15 a16 a17 a18 a19 a20 a21 a22 a23 a24 hi hE he hI h
    unfold wL_law_375
    refine pk_le 3 i (fun z => absurd z (by omega)) (fun _ => ?_)
    have e1 : (256 : Int32) * nI i + 63 = nI (256 * i + 64 * 0 + 63) := by
      show nI 256 * nI i + nI 63 = _
      rw [pk_mul, nI_add]
    rw [e1]
    have hei := he i (by omega)
    rw [if_neg (by omega)] at hei
    refine sw_w_arr (v := 0) (by omega) (by omega) (by omega) (by omega) (by omega) h (fun r u' h' => ?_)
    obtain ⟨kd, wd, pa, la, mq, lc, nw, rc, km, kl, kw, kr, tc, ts, tl, tm, a1, a2, a3, a4, a5, a6, a7, a8, a9, a10, a11, a12, a13, a14, a15, a16, a17, a18, a19, a20, a21, a22, a23, a24⟩ := u'
    have he' : ∀ s, s < 3 → (sw_ea E i ((63 : Nat) : Int) 0 0).1 s = if s < i + 1 then 13 else 12 := by
      intro s hs
      show sw_u E.1 i (E.1 i + 1) s = _
      by_cases e : s = i
      · rw [e, sw_us, hei, if_pos (by omega)]
      · rw [sw_un e, he s hs]
        by_cases e2 : s < i
        · rw [if_pos e2, if_pos (by omega)]
        · rw [if_neg e2, if_neg (by omega)]
    refine nm_r (nI_1 i) (ih (i + 1) _ M _ _ _ _ _ _ _ _ _ _ _ _ _ _ _ _ _ _ _ _ _ _ _ _ _ _ _ _ _ _ _ _ _ _ _ _ _ _ _ _ (by omega) (sw_eok_a hE (by omega) (by omega) (by omega)) he' ?_ h')
    obtain ⟨i1, i2, i3, i4, i5⟩ := hI
    refine ⟨i1, i2, fun s hs => ?_, i4, i5⟩
    have a1 := i3 s hs
    have a2 := he s hs
    rw [he' s hs]
    split <;> split at a2 <;> omega
theorem sw_w_357 {c : sw_C4} {E : sw_EV} {M K : sw_MM} {kd wd pa la mq lc nw rc km kl kw kr tc ts tl tm : Int32} {a1 a2 a3 a4 a5 a6 a7 a8 a9 a10 a11 a12 a13 a14 a15 a16 a17 a18 a19 a20 a21 a22 a23 a24 : Nat → Int32} {post : Int32 → Prop} {L : Nat} {xs : Nat → Int32} {kc ks : Nat} (hc : sw_cok c) (hE : sw_eok E) (hE12 : ∀ s, s < 3 → E.1 s = 12) (hI : sw_inv c E M) (hp : post 1) (h : sw_R c E M K (kd, wd, pa, la, mq, lc, nw, rc, km, kl, kw, kr, tc, ts, tl, tm, a1, a2, a3, a4, a5, a6, a7, a8, a9, a10, a11, a12, a13, a14, a15, a16, a17, a18, a19, a20, a21, a22, a23, a24)) :
    wL_law_357 post L xs (sw_i c.1) kc ks kd wd pa la mq lc nw rc km kl kw kr tc ts tl tm a1 a2 a3 a4 a5 a6 a7 a8 a9 a10 a11 a12 a13 a14 a15 a16 a17 a18 a19 a20 a21 a22 a23 a24 := by
  unfold wL_law_357
  refine sw_w_ra hc hE hI h (fun r u' M' h' hI' hall => ?_)
  obtain ⟨kd, wd, pa, la, mq, lc, nw, rc, km, kl, kw, kr, tc, ts, tl, tm, a1, a2, a3, a4, a5, a6, a7, a8, a9, a10, a11, a12, a13, a14, a15, a16, a17, a18, a19, a20, a21, a22, a23, a24⟩ := u'
  refine sw_w_sound hc (sw_inv_wok hc hI') (sw_inv_sok hc hI') h' (fun u2 h2 => ?_)
  obtain ⟨kd, wd, pa, la, mq, lc, nw, rc, km, kl, kw, kr, tc, ts, tl, tm, a1, a2, a3, a4, a5, a6, a7, a8, a9, a10, a11, a12, a13, a14, a15, a16, a17, a18, a19, a20, a21, a22, a23, a24⟩ := u2
  refine br_f (by decide) ⟨4, ?_⟩
  exact sw_w_375 hc hp 3 0 E M' _ _ _ _ _ _ _ _ _ _ _ _ _ _ _ _ _ _ _ _ _ _ _ _ _ _ _ _ _ _ _ _ _ _ _ _ _ _ _ _ rfl hE (fun s hs => by rw [hE12 s hs, if_neg (by omega)]) hI' h2
/-- what the law compares -/
def sw_x11 (c : sw_C4) (M : sw_MM) : Int32 := ((nI (sw_op c M 0) + (10 * nI (sw_op c M 1))) + (100 * nI (sw_op c M 2))) + (1000 * nI (sw_op c M 3))
def sw_x12 (c : sw_C4) (M : sw_MM) : Int32 := ((sw_i (sw_pe c M 0) + (101 * sw_i (sw_pe c M 1))) + (10007 * sw_i (sw_pe c M 2))) + (999983 * sw_i (sw_pe c M 3))
theorem sw_w_215 {c : sw_C4} {E : sw_EV} {M0 : sw_MM} {post : Int32 → Prop} {L : Nat} {xs : Nat → Int32} {kc ks n m : Nat} {J29 : Int32 → Int32 → Int32 → Int32 → Int32 → Int32 → Int32 → Int32 → Int32 → Int32 → Int32 → Int32 → Int32 → Int32 → Int32 → Int32 → Int32 → Int32 → (Nat → Int32) → (Nat → Int32) → (Nat → Int32) → (Nat → Int32) → (Nat → Int32) → (Nat → Int32) → (Nat → Int32) → (Nat → Int32) → (Nat → Int32) → (Nat → Int32) → (Nat → Int32) → (Nat → Int32) → (Nat → Int32) → (Nat → Int32) → (Nat → Int32) → (Nat → Int32) → (Nat → Int32) → (Nat → Int32) → (Nat → Int32) → (Nat → Int32) → (Nat → Int32) → (Nat → Int32) → (Nat → Int32) → (Nat → Int32) → Prop}
    (hc : sw_cok c) (hE : sw_eok E) (hI : sw_inv c E M0) (hL : L ≤ 260) (hnL : 37 + n < L)
    (hJ : ∀ (kd wd pa la mq lc nw rc km kl kw kr tc ts tl tm : Int32) (a1 a2 a3 a4 a5 a6 a7 a8 a9 a10 a11 a12 a13 a14 a15 a16 a17 a18 a19 a20 a21 a22 a23 a24 : Nat → Int32), sw_R c E (sw_run c E xs M0 (n + 1)) (sw_run c E xs M0 m) (kd, wd, pa, la, mq, lc, nw, rc, km, kl, kw, kr, tc, ts, tl, tm, a1, a2, a3, a4, a5, a6, a7, a8, a9, a10, a11, a12, a13, a14, a15, a16, a17, a18, a19, a20, a21, a22, a23, a24) → J29 (nI (37 + m)) (nI (37 + n + 1)) kd wd pa la mq lc nw rc km kl kw kr tc ts tl tm a1 a2 a3 a4 a5 a6 a7 a8 a9 a10 a11 a12 a13 a14 a15 a16 a17 a18 a19 a20 a21 a22 a23 a24) :
    ∀ (d i : Nat) (kd wd pa la mq lc nw rc km kl kw kr tc ts tl tm : Int32) (a1 a2 a3 a4 a5 a6 a7 a8 a9 a10 a11 a12 a13 a14 a15 a16 a17 a18 a19 a20 a21 a22 a23 a24 : Nat → Int32), i + d = n + 1 → sw_R c E (sw_run c E xs M0 i) (sw_run c E xs M0 m) (kd, wd, pa, la, mq, lc, nw, rc, km, kl, kw, kr, tc, ts, tl, tm, a1, a2, a3, a4, a5, a6, a7, a8, a9, a10, a11, a12, a13, a14, a15, a16, a17, a18, a19, a20, a21, a22, a23, a24) →
    wL_law_215 post L xs J29 (sw_i c.1) (nI (37 + m)) (nI (37 + n)) (nI (sw_rc (sw_run c E xs M0 (n + 1)))) (sw_dg (sw_rr (sw_run c E xs M0 (n + 1))) (sw_rc (sw_run c E xs M0 (n + 1))) 0 0) (sw_i (sw_lc (sw_run c E xs M0 (n + 1)))) (sw_i (sw_mk (sw_run c E xs M0 (n + 1)))) (sw_x11 c (sw_run c E xs M0 (n + 1))) (sw_x12 c (sw_run c E xs M0 (n + 1))) kc ks (d + 1) (nI (37 + i)) kd wd pa la mq lc nw rc km kl kw kr tc ts tl tm a1 a2 a3 a4 a5 a6 a7 a8 a9 a10 a11 a12 a13 a14 a15 a16 a17 a18 a19 a20 a21 a22 a23 a24 := by
  intro d
  induction d with
  | zero =>
    intro i kd wd pa la mq lc nw rc km kl kw kr tc ts tl tm a1 a2 a3 a4 a5 a6 a7 a8 a9 a10 a11 a12 a13 a14 a15 a16 a17 a18 a19 a20 a21 a22 a23 a24 hi h
    have ei : i = n + 1 := by omega
    subst ei
    have hIn := sw_run_inv (xs := xs) hc hE hI (n + 1)
    have hw := sw_inv_wok hc hIn
    have hr : sw_rc (sw_run c E xs M0 (n + 1)) ≤ 300 := (sw_inv_sok hc hIn).1
    unfold wL_law_215
    refine pk_lt (37 + n) (37 + (n + 1)) (fun _ => ?_) (fun z => absurd z (by omega))
    refine sw_w_results h (br_t rfl ?_)
    refine sw_w_dig hr h (br_t rfl ?_)
    refine sw_w_late h (br_t rfl ?_)
    refine sw_w_mark h (br_t rfl ?_)
    refine sw_w_open (k := 0) hc (by omega) hw h (fun u1 h1 => ?_)
    obtain ⟨kd, wd, pa, la, mq, lc, nw, rc, km, kl, kw, kr, tc, ts, tl, tm, a1, a2, a3, a4, a5, a6, a7, a8, a9, a10, a11, a12, a13, a14, a15, a16, a17, a18, a19, a20, a21, a22, a23, a24⟩ := u1
    refine sw_w_open (k := 1) hc (by omega) hw h1 (fun u2 h2 => ?_)
    obtain ⟨kd, wd, pa, la, mq, lc, nw, rc, km, kl, kw, kr, tc, ts, tl, tm, a1, a2, a3, a4, a5, a6, a7, a8, a9, a10, a11, a12, a13, a14, a15, a16, a17, a18, a19, a20, a21, a22, a23, a24⟩ := u2
    refine sw_w_open (k := 2) hc (by omega) hw h2 (fun u3 h3 => ?_)
    obtain ⟨kd, wd, pa, la, mq, lc, nw, rc, km, kl, kw, kr, tc, ts, tl, tm, a1, a2, a3, a4, a5, a6, a7, a8, a9, a10, a11, a12, a13, a14, a15, a16, a17, a18, a19, a20, a21, a22, a23, a24⟩ := u3
    refine sw_w_open (k := 3) hc (by omega) hw h3 (fun u4 h4 => ?_)
    obtain ⟨kd, wd, pa, la, mq, lc, nw, rc, km, kl, kw, kr, tc, ts, tl, tm, a1, a2, a3, a4, a5, a6, a7, a8, a9, a10, a11, a12, a13, a14, a15, a16, a17, a18, a19, a20, a21, a22, a23, a24⟩ := u4
    refine br_t rfl ?_
    refine sw_w_pend (k := 0) hc (by omega) hw h4 (fun u5 h5 => ?_)
    obtain ⟨kd, wd, pa, la, mq, lc, nw, rc, km, kl, kw, kr, tc, ts, tl, tm, a1, a2, a3, a4, a5, a6, a7, a8, a9, a10, a11, a12, a13, a14, a15, a16, a17, a18, a19, a20, a21, a22, a23, a24⟩ := u5
    refine sw_w_pend (k := 1) hc (by omega) hw h5 (fun u6 h6 => ?_)
    obtain ⟨kd, wd, pa, la, mq, lc, nw, rc, km, kl, kw, kr, tc, ts, tl, tm, a1, a2, a3, a4, a5, a6, a7, a8, a9, a10, a11, a12, a13, a14, a15, a16, a17, a18, a19, a20, a21, a22, a23, a24⟩ := u6
    refine sw_w_pend (k := 2) hc (by omega) hw h6 (fun u7 h7 => ?_)
    obtain ⟨kd, wd, pa, la, mq, lc, nw, rc, km, kl, kw, kr, tc, ts, tl, tm, a1, a2, a3, a4, a5, a6, a7, a8, a9, a10, a11, a12, a13, a14, a15, a16, a17, a18, a19, a20, a21, a22, a23, a24⟩ := u7
    refine sw_w_pend (k := 3) hc (by omega) hw h7 (fun u8 h8 => ?_)
    obtain ⟨kd, wd, pa, la, mq, lc, nw, rc, km, kl, kw, kr, tc, ts, tl, tm, a1, a2, a3, a4, a5, a6, a7, a8, a9, a10, a11, a12, a13, a14, a15, a16, a17, a18, a19, a20, a21, a22, a23, a24⟩ := u8
    exact br_t rfl (nm_r (nI_1 (37 + n)) (hJ _ _ _ _ _ _ _ _ _ _ _ _ _ _ _ _ _ _ _ _ _ _ _ _ _ _ _ _ _ _ _ _ _ _ _ _ _ _ _ _ h8))
  | succ d ih =>
    intro i kd wd pa la mq lc nw rc km kl kw kr tc ts tl tm a1 a2 a3 a4 a5 a6 a7 a8 a9 a10 a11 a12 a13 a14 a15 a16 a17 a18 a19 a20 a21 a22 a23 a24 hi h
    have hIi := sw_run_inv (xs := xs) hc hE hI i
    unfold wL_law_215
    refine pk_lt (37 + n) (37 + i) (fun z => absurd z (by omega)) (fun _ => ⟨pk_in (37 + i) L (by omega), ?_⟩)
    rw [nI_clamp (show 37 + i < 2 ^ 31 by omega)]
    refine sw_w_turn hc hE (sw_inv_rok hc hE hIi) h (fun r u' h' => ?_)
    obtain ⟨kd, wd, pa, la, mq, lc, nw, rc, km, kl, kw, kr, tc, ts, tl, tm, a1, a2, a3, a4, a5, a6, a7, a8, a9, a10, a11, a12, a13, a14, a15, a16, a17, a18, a19, a20, a21, a22, a23, a24⟩ := u'
    exact nm_r (nI_1 (37 + i)) (ih (i + 1) _ _ _ _ _ _ _ _ _ _ _ _ _ _ _ _ _ _ _ _ _ _ _ _ _ _ _ _ _ _ _ _ _ _ _ _ _ _ _ _ (by omega) h')
theorem sw_w_29 {c : sw_C4} {E : sw_EV} {M0 : sw_MM} {post : Int32 → Prop} {L : Nat} {xs : Nat → Int32} {kc ks : Nat} (hc : sw_cok c) (hE : sw_eok E) (hE12 : ∀ s, s < 3 → E.1 s = 12) (hI : sw_inv c E M0) (hL : L ≤ 260) (hp : post 1) :
    ∀ (d n m : Nat) (kd wd pa la mq lc nw rc km kl kw kr tc ts tl tm : Int32) (a1 a2 a3 a4 a5 a6 a7 a8 a9 a10 a11 a12 a13 a14 a15 a16 a17 a18 a19 a20 a21 a22 a23 a24 : Nat → Int32), n + d = 53 → m ≤ n → sw_R c E (sw_run c E xs M0 n) (sw_run c E xs M0 m) (kd, wd, pa, la, mq, lc, nw, rc, km, kl, kw, kr, tc, ts, tl, tm, a1, a2, a3, a4, a5, a6, a7, a8, a9, a10, a11, a12, a13, a14, a15, a16, a17, a18, a19, a20, a21, a22, a23, a24) → wL_law_29 post L xs (sw_i c.1) kc ks (d + 1) (nI (37 + m)) (nI (37 + n)) kd wd pa la mq lc nw rc km kl kw kr tc ts tl tm a1 a2 a3 a4 a5 a6 a7 a8 a9 a10 a11 a12 a13 a14 a15 a16 a17 a18 a19 a20 a21 a22 a23 a24 := by
  intro d
  induction d with
  | zero =>
    intro n m kd wd pa la mq lc nw rc km kl kw kr tc ts tl tm a1 a2 a3 a4 a5 a6 a7 a8 a9 a10 a11 a12 a13 a14 a15 a16 a17 a18 a19 a20 a21 a22 a23 a24 hn hm h
    have hIn := sw_run_inv (xs := xs) hc hE hI n
    unfold wL_law_29
    exact pk_le L (37 + n) (fun _ => sw_w_357 hc hE hE12 hIn hp h) (fun _ => pk_le 90 (37 + n) (fun _ => sw_w_357 hc hE hE12 hIn hp h) (fun z => absurd z (by omega)))
  | succ d ih =>
    intro n m kd wd pa la mq lc nw rc km kl kw kr tc ts tl tm a1 a2 a3 a4 a5 a6 a7 a8 a9 a10 a11 a12 a13 a14 a15 a16 a17 a18 a19 a20 a21 a22 a23 a24 hn hm h
    have hIn := sw_run_inv (xs := xs) hc hE hI n
    have hIs := sw_run_inv (xs := xs) hc hE hI (n + 1)
    have hmk := (sw_inv_turn hc hE hIn (xs (37 + n))).2
    have hw := sw_inv_wok hc hIs
    have hsok := sw_inv_sok hc hIs
    unfold wL_law_29
    refine pk_le L (37 + n) (fun _ => sw_w_357 hc hE hE12 hIn hp h) (fun hnL => pk_le 90 (37 + n) (fun _ => sw_w_357 hc hE hE12 hIn hp h) (fun z => ?_))
    refine sw_w_mark h ⟨pk_in (37 + n) L hnL, ?_⟩
    rw [nI_clamp (show 37 + n < 2 ^ 31 by omega)]
    refine sw_w_turn hc hE (sw_inv_rok hc hE hIn) h (fun r u1 h1 => ?_)
    obtain ⟨kd, wd, pa, la, mq, lc, nw, rc, km, kl, kw, kr, tc, ts, tl, tm, a1, a2, a3, a4, a5, a6, a7, a8, a9, a10, a11, a12, a13, a14, a15, a16, a17, a18, a19, a20, a21, a22, a23, a24⟩ := u1
    have h1' : sw_R c E (sw_run c E xs M0 (n + 1)) (sw_run c E xs M0 m) (kd, wd, pa, la, mq, lc, nw, rc, km, kl, kw, kr, tc, ts, tl, tm, a1, a2, a3, a4, a5, a6, a7, a8, a9, a10, a11, a12, a13, a14, a15, a16, a17, a18, a19, a20, a21, a22, a23, a24) := h1
    refine sw_w_mark h1' ?_
    have b1 := hIn.1
    have b2 := hIs.1
    have hmk' : sw_mk (sw_run c E xs M0 n) ≤ sw_mk (sw_run c E xs M0 (n + 1)) := hmk
    refine sw_blt (sw_mk (sw_run c E xs M0 (n + 1))) (sw_mk (sw_run c E xs M0 n)) rfl rfl (fun z => absurd z (by omega)) (fun _ => ?_)
    refine sw_w_sound hc hw hsok h1' (fun u2 h2 => ?_)
    obtain ⟨kd, wd, pa, la, mq, lc, nw, rc, km, kl, kw, kr, tc, ts, tl, tm, a1, a2, a3, a4, a5, a6, a7, a8, a9, a10, a11, a12, a13, a14, a15, a16, a17, a18, a19, a20, a21, a22, a23, a24⟩ := u2
    refine br_f (by decide) ⟨pk_in (37 + n) L hnL, ?_⟩
    obtain ⟨w, hw15, ew⟩ := pk_andE (xs (37 + n) >>> ((11 : Int32) &&& 31)) (m := 15) 4 (by decide)
    rw [ew]
    refine nm_e ?_
    refine pk_eq w 0 (fun _ => ?_) (fun _ => pk_le 3 w (fun _ => nm_r (nI_1 (37 + n)) (ih (n + 1) m _ _ _ _ _ _ _ _ _ _ _ _ _ _ _ _ _ _ _ _ _ _ _ _ _ _ _ _ _ _ _ _ _ _ _ _ _ _ _ _ (by omega) (by omega) h2)) (fun _ => ?_))
    · refine sw_w_keep h2 (fun r u3 h3 => ?_)
      obtain ⟨kd, wd, pa, la, mq, lc, nw, rc, km, kl, kw, kr, tc, ts, tl, tm, a1, a2, a3, a4, a5, a6, a7, a8, a9, a10, a11, a12, a13, a14, a15, a16, a17, a18, a19, a20, a21, a22, a23, a24⟩ := u3
      exact nm_r (nI_1 (37 + n)) (nm_r (nI_1 (37 + n)) (ih (n + 1) (n + 1) _ _ _ _ _ _ _ _ _ _ _ _ _ _ _ _ _ _ _ _ _ _ _ _ _ _ _ _ _ _ _ _ _ _ _ _ _ _ _ _ (by omega) (by omega) h3))
    · refine sw_w_results h2 ?_
      refine sw_w_dig hsok.1 h2 ?_
      refine sw_w_late h2 ?_
      refine sw_w_mark h2 ?_
      refine sw_w_open (k := 0) hc (by omega) hw h2 (fun u3 h3 => ?_)
      obtain ⟨kd, wd, pa, la, mq, lc, nw, rc, km, kl, kw, kr, tc, ts, tl, tm, a1, a2, a3, a4, a5, a6, a7, a8, a9, a10, a11, a12, a13, a14, a15, a16, a17, a18, a19, a20, a21, a22, a23, a24⟩ := u3
      refine sw_w_open (k := 1) hc (by omega) hw h3 (fun u4 h4 => ?_)
      obtain ⟨kd, wd, pa, la, mq, lc, nw, rc, km, kl, kw, kr, tc, ts, tl, tm, a1, a2, a3, a4, a5, a6, a7, a8, a9, a10, a11, a12, a13, a14, a15, a16, a17, a18, a19, a20, a21, a22, a23, a24⟩ := u4
      refine sw_w_open (k := 2) hc (by omega) hw h4 (fun u5 h5 => ?_)
      obtain ⟨kd, wd, pa, la, mq, lc, nw, rc, km, kl, kw, kr, tc, ts, tl, tm, a1, a2, a3, a4, a5, a6, a7, a8, a9, a10, a11, a12, a13, a14, a15, a16, a17, a18, a19, a20, a21, a22, a23, a24⟩ := u5
      refine sw_w_open (k := 3) hc (by omega) hw h5 (fun u6 h6 => ?_)
      obtain ⟨kd, wd, pa, la, mq, lc, nw, rc, km, kl, kw, kr, tc, ts, tl, tm, a1, a2, a3, a4, a5, a6, a7, a8, a9, a10, a11, a12, a13, a14, a15, a16, a17, a18, a19, a20, a21, a22, a23, a24⟩ := u6
      refine nm_r (e' := sw_x11 c (sw_run c E xs M0 (n + 1))) rfl ?_
      refine sw_w_pend (k := 0) hc (by omega) hw h6 (fun u7 h7 => ?_)
      obtain ⟨kd, wd, pa, la, mq, lc, nw, rc, km, kl, kw, kr, tc, ts, tl, tm, a1, a2, a3, a4, a5, a6, a7, a8, a9, a10, a11, a12, a13, a14, a15, a16, a17, a18, a19, a20, a21, a22, a23, a24⟩ := u7
      refine sw_w_pend (k := 1) hc (by omega) hw h7 (fun u8 h8 => ?_)
      obtain ⟨kd, wd, pa, la, mq, lc, nw, rc, km, kl, kw, kr, tc, ts, tl, tm, a1, a2, a3, a4, a5, a6, a7, a8, a9, a10, a11, a12, a13, a14, a15, a16, a17, a18, a19, a20, a21, a22, a23, a24⟩ := u8
      refine sw_w_pend (k := 2) hc (by omega) hw h8 (fun u9 h9 => ?_)
      obtain ⟨kd, wd, pa, la, mq, lc, nw, rc, km, kl, kw, kr, tc, ts, tl, tm, a1, a2, a3, a4, a5, a6, a7, a8, a9, a10, a11, a12, a13, a14, a15, a16, a17, a18, a19, a20, a21, a22, a23, a24⟩ := u9
      refine sw_w_pend (k := 3) hc (by omega) hw h9 (fun u10 h10 => ?_)
      obtain ⟨kd, wd, pa, la, mq, lc, nw, rc, km, kl, kw, kr, tc, ts, tl, tm, a1, a2, a3, a4, a5, a6, a7, a8, a9, a10, a11, a12, a13, a14, a15, a16, a17, a18, a19, a20, a21, a22, a23, a24⟩ := u10
      refine nm_r (e' := sw_x12 c (sw_run c E xs M0 (n + 1))) rfl ?_
      have hpre : sw_pre (sw_run c E xs M0 m) (sw_run c E xs M0 (n + 1)) := by
        have := sw_run_pre (c := c) (E := E) (xs := xs) (M := M0) m (n + 1 - m)
        rw [show m + (n + 1 - m) = n + 1 by omega] at this
        exact this
      refine sw_w_crash h10 hpre (fun r u11 h11 => ?_)
      obtain ⟨kd, wd, pa, la, mq, lc, nw, rc, km, kl, kw, kr, tc, ts, tl, tm, a1, a2, a3, a4, a5, a6, a7, a8, a9, a10, a11, a12, a13, a14, a15, a16, a17, a18, a19, a20, a21, a22, a23, a24⟩ := u11
      refine ⟨n + 1 - m + 1, ?_⟩
      exact sw_w_215 hc hE hI hL hnL (fun kd wd pa la mq lc nw rc km kl kw kr tc ts tl tm a1 a2 a3 a4 a5 a6 a7 a8 a9 a10 a11 a12 a13 a14 a15 a16 a17 a18 a19 a20 a21 a22 a23 a24 hh => ih (n + 1) m _ _ _ _ _ _ _ _ _ _ _ _ _ _ _ _ _ _ _ _ _ _ _ _ _ _ _ _ _ _ _ _ _ _ _ _ _ _ _ _ (by omega) (by omega) hh) (n + 1 - m) m _ _ _ _ _ _ _ _ _ _ _ _ _ _ _ _ _ _ _ _ _ _ _ _ _ _ _ _ _ _ _ _ _ _ _ _ _ _ _ _ (by omega) h11
theorem i_vc (xs : Nat → Int32) (L : Nat) (hL : L ≤ 260) : wpL_law (fun r => r = 1) L xs := by
  unfold wpL_law
  refine ⟨100, 10000, by omega, by omega, ?_⟩
  refine sw_w_make hL (by omega) (by omega) (fun c u hc hk h => ?_)
  obtain ⟨kd, wd, pa, la, mq, lc, nw, rc, km, kl, kw, kr, tc, ts, tl, tm, a1, a2, a3, a4, a5, a6, a7, a8, a9, a10, a11, a12, a13, a14, a15, a16, a17, a18, a19, a20, a21, a22, a23, a24⟩ := u
  refine sw_w_cell (j := 0) hL (by omega) ⟨by decide, ?_⟩
  rw [hk]
  refine nm_e ?_
  have z1 : (0 : Int) ≤ 63 := by decide
  have z2 : (0 : Nat) < 4 := by decide
  have z3 : (-50 : Int) ≤ 0 := by decide
  have z4 : (0 : Int) ≤ 50 := by decide
  refine sw_w_fill hL (fun j hj => ⟨⟨Int.le_refl _, z1⟩, z2, ⟨z3, z4⟩⟩) (fun s hs => rfl) h (fun u' E hE hE12 h' => ?_)
  obtain ⟨kd, wd, pa, la, mq, lc, nw, rc, km, kl, kw, kr, tc, ts, tl, tm, a1, a2, a3, a4, a5, a6, a7, a8, a9, a10, a11, a12, a13, a14, a15, a16, a17, a18, a19, a20, a21, a22, a23, a24⟩ := u'
  exact ⟨54, sw_w_29 (post := fun r => r = 1) (xs := xs) hc hE hE12 (sw_inv_0 hc (fun s hs => by rw [hE12 s hs]; omega)) hL rfl 53 0 0 _ _ _ _ _ _ _ _ _ _ _ _ _ _ _ _ _ _ _ _ _ _ _ _ _ _ _ _ _ _ _ _ _ _ _ _ _ _ _ _ rfl (Nat.le_refl _) h'⟩
end
