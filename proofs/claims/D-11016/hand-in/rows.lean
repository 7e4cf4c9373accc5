section
/-- the interpretations (bits of a long) that have digit i -/
def tm_wd (i : Nat) : Int64 := match i with
  | 0 => -6148914691236517206
  | 1 => -3689348814741910324
  | 2 => -1085102592571150096
  | 3 => -71777214294589696
  | 4 => -281470681808896
  | 5 => -4294967296
  | _ => 0
/-- is l a list of elements below d -/
def tm_il (d l : Nat) : Bool := if d ≤ l % 3 then false else if d ≤ l / 3 % 3 then false else if d ≤ l / 9 then false else true
/-- the element at place v of the list l -/
def tm_el (l v : Nat) : Nat := if v = 0 then l % 3 else if v = 1 then l / 3 % 3 else l / 9
/-- the atom's table at the list l -/
def tm_at (d k w l : Nat) : Int64 := if k = 0 then tm_wd (tm_el l w) else tm_wd (d + d * tm_el l (w / 3) + tm_el l (w % 3))
def tm_vo (d k w : Nat) : Nat → Int64
  | 0 => -1
  | i + 1 => if tm_il d i = true then tm_vo d k w i &&& tm_at d k w i else tm_vo d k w i
/-- where the atom is valid -/
def tm_V (d k w : Nat) : Int64 := tm_vo d k w 27
def tm_kw (k w : Nat) : Prop := (k = 0 ∧ w < 3) ∨ (k = 1 ∧ w < 9)
def tm_wh (d : Nat) : Int64 := if d = 1 then 15 else -1
/-- the models of the first m axioms (m at most 1) -/
def tm_M (m d k w : Nat) : Int64 := if m = 0 then tm_wh d else tm_wh d &&& tm_V d k w
def tm_on : Nat → Int64 → Int32 → Int32
  | 0, _, c => c
  | n + 1, x, c => if x = 0 then c else tm_on n (x &&& (x - 1)) (c + 1)
def tm_lw (x : Int64) : Nat → Nat → Int32
  | 0, _ => -1
  | n + 1, i => if ((x.toUInt64 >>> ((nI i).toInt64.toUInt64 &&& Int64.toUInt64 63)).toInt64) &&& 1 = 1 then nI i else tm_lw x n (i + 1)
def tm_hr (M : Int64) (x : Int32) : Int64 := ((M.toUInt64 >>> ((x &&& 63).toInt64.toUInt64 &&& Int64.toUInt64 63)).toInt64) <<< ((x &&& 63).toInt64 &&& 63)
/-- the three shapes: a property, a pair of one and the same place, a pair of two places -/
def tm_cs (k w : Nat) : Nat := if k = 0 then 0 else if w / 3 = w % 3 then 1 else 2
def tm_mu (c : Nat) : Nat := match c with
  | 0 => 3
  | 1 => 36
  | _ => 60
def tm_ct (c : Nat) : Nat := match c with
  | 0 => 16
  | 1 => 16
  | _ => 4
def tm_ma (c : Nat) : Int64 := tm_M 1 2 (if c = 0 then 0 else 1) (if c = 2 then 1 else 0)
def tm_fo (M : Int64) (b : Nat) : Int32 := if M &&& tm_wd b = 0 then (if M &&& (tm_wd b ^^^ (-1)) = 0 then 3 else 0) else (if M &&& (tm_wd b ^^^ (-1)) = 0 then 1 else 2)
/-- the law's own search, j numbers done from 63 down -/
def tm_nxv (af : Nat → Bool) (u : Int32) : Nat → Int32
  | 0 => -2
  | j + 1 => if af (63 - j) = true then (if nI (63 - j) &&& u = u then nI (63 - j) else tm_nxv af u j) else tm_nxv af u j
theorem tm_nxv_c {af ag : Nat → Bool} {u : Int32} (h : ∀ m, m < 64 → af m = ag m) : ∀ j, tm_nxv af u j = tm_nxv ag u j := by
  intro j
  induction j with
  | zero => rfl
  | succ j ih =>
    show (if af (63 - j) = true then (if nI (63 - j) &&& u = u then nI (63 - j) else tm_nxv af u j) else tm_nxv af u j) = (if ag (63 - j) = true then (if nI (63 - j) &&& u = u then nI (63 - j) else tm_nxv ag u j) else tm_nxv ag u j)
    rw [h (63 - j) (by omega), ih]
theorem tm_f_M : ∀ k, k < 2 → ∀ w, w < 9 → (k = 0 → w < 3) → tm_M 1 2 k w = tm_ma (tm_cs k w) := by decide +kernel
theorem tm_f_fol : ∀ k, k < 2 → ∀ w, w < 9 → (k = 0 → w < 3) → ¬ tm_on 64 (-1) 0 = 0 + tm_on 64 (-1 &&& tm_V 2 k w) 0 := by decide +kernel
theorem tm_f_ind : ∀ k, k < 2 → ∀ w, w < 9 → (k = 0 → w < 3) → ¬ tm_wh 2 &&& tm_V 2 k w = tm_wh 2 := by decide +kernel
theorem tm_f_sma : ∀ k, k < 2 → ∀ w, w < 9 → (k = 0 → w < 3) → ¬ tm_M 1 1 k w = 0 := by decide +kernel
theorem tm_f_64 : tm_on 64 (-1) 0 = 64 := by decide +kernel
theorem tm_f_0 : tm_on 64 0 0 = 0 := by decide +kernel
theorem tm_f_ct : ∀ c, c < 3 → tm_on 64 (tm_ma c) 0 = nI (tm_ct c) := by decide +kernel
theorem tm_f_fo : ∀ c, c < 3 → ∀ b, b < 6 → tm_fo (tm_ma c) b = (if ((nI (tm_mu c) >>> (nI b &&& 31)) &&& 1) = 1 then 1 else 2) ∧ 0 ≤ ((nI (tm_mu c) >>> (nI b &&& 31)) &&& 1) := by decide +kernel
theorem tm_f_nx : ∀ c, c < 3 → ∀ g, g < 64 → 64 * 0 + tm_lw (tm_hr (tm_ma c) (nI g)) 64 0 = tm_nxv (fun m => decide (g ≤ m)) (nI (tm_mu c)) 64 ∧ ¬ tm_hr (tm_ma c) (nI g) = 0 := by decide +kernel
theorem tm_f_nx64 : ∀ c, c < 3 → tm_nxv (fun m => decide (64 ≤ m)) (nI (tm_mu c)) 64 = -2 := by decide +kernel
theorem tm_f_is : ∀ c, c < 3 → ((((tm_ma c).toUInt64 >>> ((nI (tm_mu c) &&& 63).toInt64.toUInt64 &&& Int64.toUInt64 63)).toInt64).toInt32) &&& 1 = 1 := by decide +kernel
theorem tm_cs3 (k w : Nat) : tm_cs k w < 3 := by
  unfold tm_cs
  split
  · omega
  · split <;> omega
theorem tm_mu64 : ∀ c, c < 3 → tm_mu c < 64 := by decide
theorem tm_kw_k {k w : Nat} (h : tm_kw k w) : k < 2 := by
  rcases h with h | h <;> omega
theorem tm_kw_w {k w : Nat} (h : tm_kw k w) : w < 9 := by
  rcases h with h | h <;> omega
theorem tm_kw_0 {k w : Nat} (h : tm_kw k w) : k = 0 → w < 3 := by
  rcases h with h | h <;> omega
theorem tm_el3 {l v : Nat} (h : l < 27) : tm_el l v < 3 := by
  unfold tm_el
  split
  · omega
  · split <;> omega
theorem tm_eld {d l v : Nat} (h : tm_il d l = true) : tm_el l v < d := by
  unfold tm_il at h
  split at h
  · exact absurd h (by decide)
  · split at h
    · exact absurd h (by decide)
    · split at h
      · exact absurd h (by decide)
      · unfold tm_el
        split
        · omega
        · split <;> omega
theorem tm_3 (a b : Nat) : 3 * nI a + nI b = nI (3 * a + b) := by
  rw [show (3 : Int32) = nI 3 from rfl, pk_mul, nI_add]
theorem tm_in3 {a b : Nat} (ha : a < 3) (hb : b < 3) : vp_in (3 * nI a + nI b) 9 := pk_in (3 * a + b) 9 (by omega) (tm_3 a b)
theorem tm_cl3 {a b : Nat} (ha : a < 3) (hb : b < 3) : (3 * nI a + nI b).toNatClampNeg = 3 * a + b := pk_cl (3 * a + b) (tm_3 a b)
theorem tm_rem3 {l : Nat} (h : l < 2 ^ 31) : nI l - nI l / 3 * 3 = nI (l % 3) := pk_rem (d := 3) h (by omega) (by omega)
theorem tm_div3 {l : Nat} (h : l < 2 ^ 31) : nI l / 3 = nI (l / 3) := pk_div (d := 3) h (by omega) (by omega)
theorem tm_div9 {l : Nat} (h : l < 2 ^ 31) : nI l / 9 = nI (l / 9) := pk_div (d := 9) h (by omega) (by omega)
theorem tm_dr3 {l : Nat} (h : l < 2 ^ 31) : nI l / 3 - nI l / 3 / 3 * 3 = nI (l / 3 % 3) := by
  rw [tm_div3 h]
  exact tm_rem3 (by omega)
theorem tm_dig {d e f : Nat} (hd : d = 1 ∨ d = 2) (he : e < d) (hf : f < d) : d + d * e + f < 6 := by
  rcases hd with rfl | rfl <;> omega
end
section
theorem tm_withDigit {post : Int64 → Prop} {x p : Int32} (i : Nat) (hi : i < 6) (hx : x = nI i) (H : post (tm_wd i)) : wpX_withDigit post () x p := by
  subst hx
  unfold wpX_withDigit
  exact pk_lt i 0 (fun z => absurd z (by omega)) (fun _ => pk_lt 5 i (fun z => absurd z (by omega)) (fun _ =>
    pk_eq i 0 (fun z => by subst z; exact H) (fun n0 => pk_eq i 1 (fun z => by subst z; exact H) (fun n1 =>
    pk_eq i 2 (fun z => by subst z; exact H) (fun n2 => pk_eq i 3 (fun z => by subst z; exact H) (fun n3 =>
    pk_eq i 4 (fun z => by subst z; exact H) (fun n4 => pk_eq i 5 (fun z => by subst z; exact H) (fun _ => trivial))))))))
theorem tm_partsOf {post : Int32 → Prop} {x : Int32} (d : Nat) (hd : d = 1 ∨ d = 2) (hx : x = nI d) (H : post 1) : wpX_partsOf post () x := by
  subst hx
  unfold wpX_partsOf
  exact pk_eq d 3 (fun z => absurd z (by omega)) (fun _ => H)
theorem tm_wholePart {post : Int64 → Prop} {x : Int32} (d : Nat) (hd : d = 1 ∨ d = 2) (hx : x = nI d) (H : post (tm_wh d)) : wpX_wholePart post () x := by
  subst hx
  unfold wpX_wholePart
  exact pk_eq d 1 (fun z => by subst z; exact H) (fun z => by
    have e : tm_wh d = -1 := if_neg z
    rw [e] at H
    exact H)
theorem tm_taken {post : Int32 → Prop} {x : Int32} (k : Nat) (hk : k < 4) (hx : x = nI k) (H : post 0) : wpX_taken post () x := by
  subst hx
  unfold wpX_taken
  exact pk_lt 3 k (fun z => absurd z (by omega)) (fun _ => H)
theorem tm_isList {post : Int32 → Prop} {fh fa fe fk fd : Int32} {a1 a2 a3 a4 a5 a7 : Nat → Int32} {a6 a8 a9 a10 a11 a12 a13 : Nat → Int64} {d l : Nat} (hd : d ≤ 3) (hl : l < 27) (H1 : tm_il d l = true → post 1) (H0 : tm_il d l = false → post 0) : wpX_isList post (fh, fa, fe, fk, nI d, fd, a1, a2, a3, a4, a5, a6, a7, a8, a9, a10, a11, a12, a13) (nI l) := by
  unfold wpX_isList
  refine ⟨by decide, pk_le d (l % 3) (fun z => H0 (if_pos z)) (fun z => ⟨by decide, by decide, pk_le d (l / 3 % 3) (fun z2 => H0 ?_) (fun z2 => ⟨by decide, pk_le d (l / 9) (fun z3 => H0 ?_) (fun z3 => H1 ?_) rfl (tm_div9 (by omega))⟩) rfl (tm_dr3 (by omega))⟩) rfl (tm_rem3 (by omega))⟩
  · unfold tm_il
    rw [if_neg (by omega), if_pos z2]
  · unfold tm_il
    rw [if_neg (by omega), if_neg (by omega), if_pos z3]
  · unfold tm_il
    rw [if_neg (by omega), if_neg (by omega), if_neg (by omega)]
theorem tm_elementIn {post : Int32 → Prop} {x y : Int32} {l v : Nat} (hl : l < 27) (hx : x = nI l) (hv : v < 3) (hy : y = nI v) (H : post (nI (tm_el l v))) : wpX_elementIn post () x y := by
  subst hx hy
  unfold wpX_elementIn
  refine pk_eq v 0 (fun z => ⟨by decide, ?_⟩) (fun z => pk_eq v 1 (fun z1 => ⟨by decide, by decide, ?_⟩) (fun z1 => ⟨by decide, ?_⟩))
  · rw [tm_rem3 (by omega)]
    subst z
    exact H
  · rw [tm_dr3 (by omega)]
    subst z1
    exact H
  · rw [tm_div9 (by omega)]
    have e : tm_el l v = l / 9 := by
      unfold tm_el
      rw [if_neg z, if_neg z1]
    rw [e] at H
    exact H
theorem tm_atom {post : Int64 → Prop} {fh fa fe fk fs fd : Int32} {a1 a2 a3 a4 a5 a7 : Nat → Int32} {a6 a8 a9 a10 a11 a12 a13 : Nat → Int64} {k e f : Nat} (hk : k < 2) (he : e < 3) (hf : f < 3) (H0 : k = 0 → post (a8 e)) (H1 : k = 1 → post (a9 (3 * e + f))) : wpX_atom post (fh, fa, fe, fk, fs, fd, a1, a2, a3, a4, a5, a6, a7, a8, a9, a10, a11, a12, a13) (nI k) (nI e) (nI f) := by
  unfold wpX_atom
  refine pk_lt k 0 (fun z => absurd z (by omega)) (fun _ => pk_lt 2 k (fun z => absurd z (by omega)) (fun _ => pk_eq k 0 (fun z => ⟨pk_in e 3 he, ?_⟩) (fun z => pk_eq k 1 (fun z1 => ⟨tm_in3 he hf, ?_⟩) (fun z1 => absurd hk (by omega)))))
  · rw [nI_clamp (by omega)]
    exact H0 z
  · rw [tm_cl3 he hf]
    exact H1 z1
theorem tm_ones7 {post : Int32 → Prop} : ∀ (n : Nat) (x : Int64) (c : Int32), n ≤ 64 → post (tm_on n x c) → wX_ones_7 post (n + 1) c x (nI (64 - n)) := by
  intro n
  induction n with
  | zero => exact fun x c _ h => pk_le 64 64 (fun _ => h) (fun z => absurd z (by omega))
  | succ n ih =>
    intro x c hn h
    refine pk_le 64 (64 - (n + 1)) (fun z => absurd z (by omega)) (fun _ => br_c (fun z => ?_) (fun z => nm_e (nm_e (nm_r (e' := nI (64 - n)) ?_ (ih _ _ (by omega) ?_)))))
    · have e : tm_on (n + 1) x c = c := if_pos z
      rw [e] at h
      exact h
    · rw [nI_1, show 64 - (n + 1) + 1 = 64 - n by omega]
    · have e : tm_on (n + 1) x c = tm_on n (x &&& (x - 1)) (c + 1) := if_neg z
      rw [e] at h
      exact h
theorem tm_ones {post : Int32 → Prop} {x : Int64} (H : post (tm_on 64 x 0)) : wpX_ones post () x := ⟨65, tm_ones7 64 x 0 (by omega) H⟩
theorem tm_lowest2 {post : Int32 → Prop} {x : Int64} : ∀ (n i : Nat), n + i = 64 → post (tm_lw x n i) → wX_lowest_2 post x (n + 1) (nI i) := by
  intro n
  induction n with
  | zero => exact fun i hi h => pk_le 64 i (fun _ => h) (fun z => absurd z (by omega))
  | succ n ih =>
    intro i hi h
    refine pk_le 64 i (fun z => absurd z (by omega)) (fun _ => br_c (fun z => ?_) (fun z => nm_r (nI_1 i) (ih (i + 1) (by omega) ?_)))
    · have e : tm_lw x (n + 1) i = nI i := if_pos z
      rw [e] at h
      exact h
    · have e : tm_lw x (n + 1) i = tm_lw x n (i + 1) := if_neg z
      rw [e] at h
      exact h
theorem tm_lowest {post : Int32 → Prop} {x : Int64} (H : post (tm_lw x 64 0)) : wpX_lowest post () x := ⟨65, tm_lowest2 64 0 (by omega) H⟩
theorem tm_co12 {post : St2 → Prop} {J : Int32 → (Nat → Int32) → (Nat → Int32) → (Nat → Int32) → (Nat → Int32) → (Nat → Int32) → (Nat → Int64) → (Nat → Int32) → (Nat → Int64) → (Nat → Int64) → (Nat → Int64) → (Nat → Int64) → (Nat → Int64) → (Nat → Int64) → Prop} {fh fa fe fk fd : Int32} {a1 a2 a3 a4 a5 a7 : Nat → Int32} {a6 a8 a9 a10 a11 a12 a13 : Nat → Int64} {d o e : Nat} (hd : d ≤ 3) (ho : o < d) (he : e < d) (H : ∀ b, J (nI (e + 1)) a1 a2 a3 a4 a5 a6 a7 a8 a9 b a11 a12 a13) : ∃ n, wX_closeOver_12 post J (nI o) (nI e) fh fa fe fk (nI d) fd n 0 a1 a2 a3 a4 a5 a6 a7 a8 a9 a10 a11 a12 a13 :=
  pk_loop (fun n i s => wX_closeOver_12 post J (nI o) (nI e) fh fa fe fk (nI d) fd n (nI i) a1 a2 a3 a4 a5 a6 a7 a8 a9 s a11 a12 a13) (fun _ _ => True) d 0 a10 (by omega) trivial
    (fun n s _ => pk_le d d (fun _ => nm_r (nI_1 e) (H s)) (fun z => absurd z (by omega)))
    (fun n i s hi _ hw => pk_le d i (fun z => absurd z (by omega)) (fun _ => ⟨tm_in3 (by omega) (by omega), tm_in3 (by omega) (by omega), tm_in3 (by omega) (by omega), tm_in3 (by omega) (by omega), nm_e (nm_r (nI_1 i) (hw _ trivial))⟩))
theorem tm_co2 {post : St2 → Prop} {fh fa fe fk fd : Int32} {a1 a2 a3 a4 a5 a7 : Nat → Int32} {a6 a8 a9 a10 a11 a12 a13 : Nat → Int64} {d o : Nat} (hd : d ≤ 3) (ho : o < d) (H : ∀ b, post (fh, fa, fe, fk, nI d, fd, a1, a2, a3, a4, a5, a6, a7, a8, a9, b, a11, a12, a13)) : ∃ n, wX_closeOver_2 post (nI o) fh fa fe fk (nI d) fd n 0 a1 a2 a3 a4 a5 a6 a7 a8 a9 a10 a11 a12 a13 :=
  pk_loop (fun n i s => wX_closeOver_2 post (nI o) fh fa fe fk (nI d) fd n (nI i) a1 a2 a3 a4 a5 a6 a7 a8 a9 s a11 a12 a13) (fun _ _ => True) d 0 a10 (by omega) trivial
    (fun n s _ => pk_le d d (fun _ => H s) (fun z => absurd z (by omega)))
    (fun n i s hi _ hw => pk_le d i (fun z => absurd z (by omega)) (fun _ => tm_co12 hd ho hi (fun b => hw b trivial)))
theorem tm_closeOver {post : St2 → Prop} {fh fa fe fk fd : Int32} {a1 a2 a3 a4 a5 a7 : Nat → Int32} {a6 a8 a9 a10 a11 a12 a13 : Nat → Int64} {d o : Nat} (hd : d ≤ 3) (ho : o < d) (H : ∀ b, post (fh, fa, fe, fk, nI d, fd, a1, a2, a3, a4, a5, a6, a7, a8, a9, b, a11, a12, a13)) : wpX_closeOver post (fh, fa, fe, fk, nI d, fd, a1, a2, a3, a4, a5, a6, a7, a8, a9, a10, a11, a12, a13) (nI o) := by
  unfold wpX_closeOver
  exact tm_co2 hd ho H
theorem tm_lp103 {post : St2 → Prop} {fh fa fe fk fd : Int32} {a1 a2 a3 a4 a5 a7 : Nat → Int32} {a6 a8 a9 a10 a11 a12 a13 : Nat → Int64} {d : Nat} (hd : d ≤ 3) (H : ∀ b, post (fh, fa, fe, fk, nI d, fd, a1, a2, a3, a4, a5, a6, a7, a8, a9, b, a11, a12, a13)) : ∃ n, wX_layPart_103 post (nI d) n 0 fh fa fe fk (nI d) fd a1 a2 a3 a4 a5 a6 a7 a8 a9 a10 a11 a12 a13 :=
  pk_loop (fun n i s => wX_layPart_103 post (nI d) n (nI i) fh fa fe fk (nI d) fd a1 a2 a3 a4 a5 a6 a7 a8 a9 s a11 a12 a13) (fun _ _ => True) d 0 a10 (by omega) trivial
    (fun n s _ => pk_le d d (fun _ => H s) (fun z => absurd z (by omega)))
    (fun n i s hi _ hw => pk_le d i (fun z => absurd z (by omega)) (fun _ => tm_closeOver hd hi (fun b => nm_r (nI_1 i) (hw b trivial))))
theorem tm_lpix {d e f : Nat} : nI d + nI d * nI e + nI f = nI (d + d * e + f) := by
  rw [pk_mul, nI_add, nI_add]
theorem tm_lpinv {d e f : Nat} {s : Nat → Int64} (hd : d ≤ 3) (he : e < d) (hf : f < d) (h : ∀ e' f', e' < d → f' < d → (e' < e ∨ (e' = e ∧ f' < f)) → s (3 * e' + f') = tm_wd (d + d * e' + f')) :
    ∀ e' f', e' < d → f' < d → (e' < e ∨ (e' = e ∧ f' < f + 1)) → vp_updL s (3 * nI e + nI f).toNatClampNeg (tm_wd (d + d * e + f)) (3 * e' + f') = tm_wd (d + d * e' + f') := by
  intro e' f' h1 h2 h3
  rw [tm_cl3 (by omega) (by omega)]
  by_cases c : 3 * e' + f' = 3 * e + f
  · have ee : e' = e := by omega
    have ff : f' = f := by omega
    rw [ee, ff, pk_uLs]
  · rw [pk_uLn c]
    exact h e' f' h1 h2 (by omega)
theorem tm_lp26 {post : St2 → Prop} {J : Int32 → (Nat → Int32) → (Nat → Int32) → (Nat → Int32) → (Nat → Int32) → (Nat → Int32) → (Nat → Int64) → (Nat → Int32) → (Nat → Int64) → (Nat → Int64) → (Nat → Int64) → (Nat → Int64) → (Nat → Int64) → (Nat → Int64) → Prop} {fh fa fe fk fs fd : Int32} {a1 a2 a3 a4 a5 a7 : Nat → Int32} {a6 a8 a9 a10 a11 a12 a13 : Nat → Int64} {p : Int32} {d e : Nat} (hd : d = 1 ∨ d = 2) (he : e < d) (h0 : ∀ e' f', e' < d → f' < d → (e' < e ∨ (e' = e ∧ f' < 0)) → a9 (3 * e' + f') = tm_wd (d + d * e' + f'))
    (H : ∀ b9 b10, (∀ e' f', e' < d → f' < d → (e' < e ∨ (e' = e ∧ f' < d)) → b9 (3 * e' + f') = tm_wd (d + d * e' + f')) → J (nI (e + 1)) a1 a2 a3 a4 a5 a6 a7 a8 b9 b10 a11 a12 a13) : ∃ n, wX_layPart_26 post J (nI d) p (nI e) fh fa fe fk fs fd n 0 a1 a2 a3 a4 a5 a6 a7 a8 a9 a10 a11 a12 a13 :=
  pk_loop (fun n i (s : (Nat → Int64) × (Nat → Int64)) => wX_layPart_26 post J (nI d) p (nI e) fh fa fe fk fs fd n (nI i) a1 a2 a3 a4 a5 a6 a7 a8 s.1 s.2 a11 a12 a13) (fun f s => ∀ e' f', e' < d → f' < d → (e' < e ∨ (e' = e ∧ f' < f)) → s.1 (3 * e' + f') = tm_wd (d + d * e' + f')) d 0 (a9, a10) (by omega) h0
    (fun n s h => pk_le d d (fun _ => nm_r (nI_1 e) (H s.1 s.2 h)) (fun z => absurd z (by omega)))
    (fun n i s hi h hw => pk_le d i (fun z => absurd z (by omega)) (fun _ => tm_withDigit (d + d * e + i) (tm_dig hd he hi) tm_lpix
      ⟨tm_in3 (by omega) (by omega), nm_e (br_c (fun _ => ⟨tm_in3 (by omega) (by omega), nm_e (nm_r (nI_1 i) (hw (_, _) (tm_lpinv (by omega) he hi h)))⟩) (fun _ => ⟨tm_in3 (by omega) (by omega), tm_in3 (by omega) (by omega), nm_e (nm_r (nI_1 i) (hw (_, _) (tm_lpinv (by omega) he hi h)))⟩))⟩))
theorem tm_lp7 {post : St2 → Prop} {fh fa fe fk fd : Int32} {a1 a2 a3 a4 a5 a7 : Nat → Int32} {a6 a8 a9 a10 a11 a12 a13 : Nat → Int64} {p : Int32} {d : Nat} (hd : d = 1 ∨ d = 2)
    (H : ∀ b8 b9 b10, (∀ e, e < d → b8 e = tm_wd e) → (∀ e f, e < d → f < d → b9 (3 * e + f) = tm_wd (d + d * e + f)) → post (fh, fa, fe, fk, nI d, fd, a1, a2, a3, a4, a5, a6, a7, b8, b9, b10, a11, a12, a13)) : ∃ n, wX_layPart_7 post (nI d) p fh fa fe fk (nI d) fd n 0 a1 a2 a3 a4 a5 a6 a7 a8 a9 a10 a11 a12 a13 :=
  pk_loop (fun n i (s : (Nat → Int64) × (Nat → Int64) × (Nat → Int64)) => wX_layPart_7 post (nI d) p fh fa fe fk (nI d) fd n (nI i) a1 a2 a3 a4 a5 a6 a7 s.1 s.2.1 s.2.2 a11 a12 a13) (fun i s => (∀ e, e < i → s.1 e = tm_wd e) ∧ (∀ e f, e < d → f < d → (e < i ∨ (e = i ∧ f < 0)) → s.2.1 (3 * e + f) = tm_wd (d + d * e + f))) d 0 (a8, a9, a10) (by omega) ⟨fun e z => absurd z (by omega), fun e f _ _ z => absurd z (by omega)⟩
    (fun n s h => pk_le d d (fun _ => tm_lp103 (by omega) (fun b => H s.1 s.2.1 b h.1 (fun e f he hf => h.2 e f he hf (Or.inl he)))) (fun z => absurd z (by omega)))
    (fun n i s hi h hw => pk_le d i (fun z => absurd z (by omega)) (fun _ => tm_withDigit i (by omega) rfl
      ⟨pk_in i 3 (by omega), nm_e (tm_lp26 hd hi h.2 (fun b9 b10 h9 => hw (_, b9, b10) ⟨fun e he => by
          show vp_updL s.1 (nI i).toNatClampNeg (tm_wd i) e = tm_wd e
          rw [nI_clamp (by omega)]
          by_cases c : e = i
          · rw [c, pk_uLs]
          · rw [pk_uLn c]
            exact h.1 e (by omega), fun e f he hf hc => h9 e f he hf (by omega)⟩))⟩))
theorem tm_layPart {post : St2 → Prop} {fh fa fe fk fs fd : Int32} {a1 a2 a3 a4 a5 a7 : Nat → Int32} {a6 a8 a9 a10 a11 a12 a13 : Nat → Int64} {x p : Int32} {d : Nat} (hd : d = 1 ∨ d = 2) (hx : x = nI d)
    (H : ∀ b8 b9 b10, (∀ e, e < d → b8 e = tm_wd e) → (∀ e f, e < d → f < d → b9 (3 * e + f) = tm_wd (d + d * e + f)) → post (fh, fa, fe, fk, nI d, fd, a1, a2, a3, a4, a5, a6, a7, b8, b9, b10, a11, a12, a13)) : wpX_layPart post (fh, fa, fe, fk, fs, fd, a1, a2, a3, a4, a5, a6, a7, a8, a9, a10, a11, a12, a13) x p := by
  subst hx
  unfold wpX_layPart
  exact tm_lp7 hd H
end
section
theorem tm_lm73 {post : St2 → Prop} {fh fa fe fk fs fd : Int32} {a1 a2 a3 a4 a5 a7 : Nat → Int32} {a6 a8 a9 a10 a11 a12 a13 : Nat → Int64} {x4 z0 z1 : Int32} {p q : Nat} (hp : p < 6) (hq : q < 18) (hz : z1 = nI q) (H : ∀ b, post (fh, fa, fe, fk, fs, fd, a1, a2, a3, a4, a5, a6, b, a8, a9, a10, a11, a12, a13)) : wX_layMap_73 post (nI p) x4 z0 z1 fh fa fe fk fs fd a1 a2 a3 a4 a5 a6 a7 a8 a9 a10 a11 a12 a13 :=
  ⟨pk_in q 18 hq hz, nm_e ⟨pk_in (3 * p + 2) 18 (by omega) (tm_3 p 2), nm_e (H _)⟩⟩
theorem tm_lm52 {post : St2 → Prop} {fh fa fe fk fs fd : Int32} {a1 a2 a3 a4 a5 a7 : Nat → Int32} {a6 a8 a9 a10 a11 a12 a13 : Nat → Int64} {x2 x3 x4 z0 z1 : Int32} {p q : Nat} (hp : p < 6) (hq : q < 18) (hz : z1 = nI q) (H : ∀ b, post (fh, fa, fe, fk, fs, fd, a1, a2, a3, a4, a5, a6, b, a8, a9, a10, a11, a12, a13)) : wX_layMap_52 post (nI p) x2 x3 x4 z0 z1 fh fa fe fk fs fd a1 a2 a3 a4 a5 a6 a7 a8 a9 a10 a11 a12 a13 :=
  ⟨pk_in q 18 hq hz, nm_e ⟨by decide, br_c (fun _ => tm_lm73 (q := 3 * p + 1) hp (by omega) (tm_3 p 1) H) (fun _ => tm_lm73 (q := 3 * p + 1) hp (by omega) (tm_3 p 1) H)⟩⟩
theorem tm_lm34 {post : St2 → Prop} {fh fa fe fk fs fd : Int32} {a1 a2 a3 a4 a5 a7 : Nat → Int32} {a6 a8 a9 a10 a11 a12 a13 : Nat → Int64} {x2 x3 x4 : Int32} {p : Nat} (hp : p < 6) (H : ∀ b, post (fh, fa, fe, fk, fs, fd, a1, a2, a3, a4, a5, a6, b, a8, a9, a10, a11, a12, a13)) : wX_layMap_34 post (nI p) x2 x3 x4 fh fa fe fk fs fd a1 a2 a3 a4 a5 a6 a7 a8 a9 a10 a11 a12 a13 :=
  ⟨by decide, br_c (fun _ => tm_lm52 (q := 3 * p) hp (by omega) (pk_mul 3 p) H) (fun _ => tm_lm52 (q := 3 * p) hp (by omega) (pk_mul 3 p) H)⟩
theorem tm_layMap {post : St2 → Prop} {fh fa fe fk fs fd : Int32} {a1 a2 a3 a4 a5 a7 : Nat → Int32} {a6 a8 a9 a10 a11 a12 a13 : Nat → Int64} {p : Nat} (hp : p < 6) (H : ∀ b, post (fh, fa, fe, fk, fs, fd, a1, a2, a3, a4, a5, a6, b, a8, a9, a10, a11, a12, a13)) : wpX_layMap post (fh, fa, fe, fk, fs, fd, a1, a2, a3, a4, a5, a6, a7, a8, a9, a10, a11, a12, a13) (nI p) := by
  unfold wpX_layMap
  exact br_c (fun _ => br_c (fun _ => tm_lm34 hp H) (fun _ => tm_lm34 hp H)) (fun _ => tm_lm34 hp H)
theorem tm_init117 {post : St2 → Prop} {mc ms kc ks : Nat} {fh fa fe fk fs fd : Int32} {a1 a2 a3 a4 a5 a7 : Nat → Int32} {a6 a8 a9 a10 a11 a12 a13 : Nat → Int64} (H : ∀ b, post (fh, fa, fe, fk, fs, fd, a1, a2, a3, a4, a5, a6, b, a8, a9, a10, a11, a12, a13)) : ∃ n, wX_init_117 post mc ms kc ks n 0 fh fa fe fk fs fd a1 a2 a3 a4 a5 a6 a7 a8 a9 a10 a11 a12 a13 :=
  pk_loop (fun n i s => wX_init_117 post mc ms kc ks n (nI i) fh fa fe fk fs fd a1 a2 a3 a4 a5 a6 s a8 a9 a10 a11 a12 a13) (fun _ _ => True) 6 0 a7 (by omega) trivial
    (fun n s _ => pk_le 6 6 (fun _ => H s) (fun z => absurd z (by omega)))
    (fun n i s hi _ hw => pk_le 6 i (fun z => absurd z (by omega)) (fun _ => tm_layMap hi (fun b => nm_r (nI_1 i) (hw b trivial))))
def tm_z : Nat → Int32 := fun _ => 0
def tm_zL : Nat → Int64 := fun _ => 0
theorem tm_init {post : St2 → Prop} {mc ms : Nat} (hc : 13 ≤ mc) (hs : 1129 ≤ ms) (H : ∀ b, post (0, 0, 2, 0, 0, 0, tm_z, tm_z, tm_z, tm_z, tm_z, tm_zL, b, tm_zL, tm_zL, tm_zL, tm_zL, tm_zL, tm_zL)) : wpX_init post mc ms (0, 0, 0, 0, 0, 0) := by
  unfold wpX_init
  exact ⟨by omega, by omega, by omega, by omega, by omega, by omega, by omega, by omega, by omega, by omega, by omega, by omega, by omega, by omega, by omega, by omega, by omega, by omega, by omega, by omega, by omega, by omega, by omega, by omega, by omega, by omega, tm_init117 H⟩
theorem tm_fits {post : Int32 → Prop} {k w : Nat} (h : tm_kw k w) (H : post 1) : wpX_fits post () (nI k) (nI w) := by
  have hk := tm_kw_k h
  have hw := tm_kw_w h
  have h0 := tm_kw_0 h
  unfold wpX_fits
  refine pk_lt k 0 (fun z => absurd z (by omega)) (fun _ => pk_lt 11 k (fun z => absurd z (by omega)) (fun _ => pk_eq k 0 (fun z => ?_) (fun z => pk_eq k 1 (fun z1 => ?_) (fun z1 => absurd hk (by omega)))))
  · exact pk_lt w 0 (fun z => absurd z (by omega)) (fun _ => pk_lt 2 w (fun z => absurd z (by omega)) (fun _ => H))
  · exact pk_lt w 0 (fun z => absurd z (by omega)) (fun _ => pk_lt 8 w (fun z => absurd z (by omega)) (fun _ => H))
/-- the first token: an atom -/
theorem tm_token {post : Int32 → St2 → Prop} {fa fe fk fs fd : Int32} {a1 a2 a3 a4 a5 a7 : Nat → Int32} {a6 a8 a9 a10 a11 a12 a13 : Nat → Int64} {k w : Nat} (hkw : tm_kw k w)
    (H : ∀ b1 b2 b3 b4, b1 0 = nI k → b2 0 = nI w → b3 0 = 0 → b4 0 = 1 → post 1 (1, fa, fe, fk, fs, fd, b1, b2, b3, b4, a5, a6, a7, a8, a9, a10, a11, a12, a13)) : wpX_token post (0, fa, fe, fk, fs, fd, a1, a2, a3, a4, a5, a6, a7, a8, a9, a10, a11, a12, a13) (nI k) (nI w) := by
  have hk := tm_kw_k hkw
  unfold wpX_token
  refine pk_lt k 0 (fun z => absurd z (by omega)) (fun _ => pk_lt 11 k (fun z => absurd z (by omega)) (fun _ => tm_fits hkw (br_f (by decide) (tm_taken k (by omega) rfl (br_t (by decide) (br_t rfl (br_t (by decide) (nm_r (e' := 0) (by decide) ⟨1, ?_⟩))))))))
  refine br_t (by decide) (br_t (by decide) (br_t rfl ⟨pk_in 0 288 (by omega), nm_e ⟨pk_in 0 288 (by omega), nm_e (nm_r (e' := 0) (by decide) (br_t rfl ⟨pk_in 0 6 (by omega), nm_e ⟨pk_in 0 6 (by omega), nm_e (nm_r (e' := 1) (by decide) ?_)⟩⟩))⟩⟩))
  exact H _ _ _ _ (by rw [sb_cl0, pk_us]) (by rw [sb_cl0, pk_us]) (by rw [sb_cl0, pk_us]) (by rw [sb_cl0, pk_us])
end
section
theorem tm_lainv {d k w i : Nat} {s : Nat → Int64} (h : ∀ l, l < i → tm_il d l = true → s l = tm_at d k w l) : ∀ l, l < i + 1 → tm_il d l = true → vp_updL s i (tm_at d k w i) l = tm_at d k w l := by
  intro l hl hc
  by_cases c : l = i
  · rw [c, pk_uLs]
  · rw [pk_uLn c]
    exact h l (by omega) hc
theorem tm_laskip {d k w i : Nat} {s : Nat → Int64} (h : ∀ l, l < i → tm_il d l = true → s l = tm_at d k w l) (hn : tm_il d i = false) : ∀ l, l < i + 1 → tm_il d l = true → s l = tm_at d k w l := by
  intro l hl hc
  by_cases c : l = i
  · rw [c, hn] at hc
    exact absurd hc (by decide)
  · exact h l (by omega) hc
theorem tm_validOnes {post : Int64 → Prop} {fh fa fe fk fd : Int32} {a1 a2 a3 a4 a5 a7 : Nat → Int32} {a6 a8 a9 a10 a11 a12 a13 : Nat → Int64} {d k w : Nat} (hd : d ≤ 3) (hb : ∀ l, l < 27 → tm_il d l = true → a11 l = tm_at d k w l) (H : post (tm_V d k w)) : wpX_validOnes post (fh, fa, fe, fk, nI d, fd, a1, a2, a3, a4, a5, a6, a7, a8, a9, a10, a11, a12, a13) := by
  unfold wpX_validOnes
  exact pk_loop (fun n i s => wX_validOnes_6 post fh fa fe fk (nI d) fd a1 a2 a3 a4 a5 a6 a7 a8 a9 a10 a11 a12 a13 n s (nI i)) (fun i s => s = tm_vo d k w i) 27 0 (-1) (by omega) rfl
    (fun n s h => pk_le 27 27 (fun _ => ek_v (P := post) h H) (fun z => absurd z (by omega)))
    (fun n i s hi h hw => pk_le 27 i (fun z => absurd z (by omega)) (fun _ => tm_isList hd hi
      (fun hil => br_f (by decide) ⟨pk_in i 378 (by omega), nm_r (e' := tm_vo d k w (i + 1)) (by
          have h' : s = tm_vo d k w i := h
          rw [nI_clamp (by omega), hb i hi hil, h']
          exact (if_pos hil).symm) (nm_r (nI_1 i) (hw _ rfl))⟩)
      (fun hn => br_t rfl (nm_r (nI_1 i) (hw s (by
          have h' : s = tm_vo d k w i := h
          show s = tm_vo d k w (i + 1)
          rw [h']
          exact (if_neg (by rw [hn]; decide)).symm))))))
theorem tm_la58 {post : St2 → Prop} {J : Int32 → (Nat → Int32) → (Nat → Int32) → (Nat → Int32) → (Nat → Int32) → (Nat → Int32) → (Nat → Int64) → (Nat → Int32) → (Nat → Int64) → (Nat → Int64) → (Nat → Int64) → (Nat → Int64) → (Nat → Int64) → (Nat → Int64) → Prop} {fh fa fe fk fs fd : Int32} {a1 a2 a3 a4 a5 a7 : Nat → Int32} {a6 a8 a9 a10 a11 a12 a13 : Nat → Int64} {x2 z0 : Int32} {k l e v : Nat} {val : Int64} (hk : k < 2) (hl : l < 27) (he : e < 3) (hv : v < 3) (hz : z0 = nI v)
    (H0 : k = 0 → a8 e = val) (H1 : k = 1 → a9 (3 * e + tm_el l v) = val) (H : J (nI (l + 1)) a1 a2 a3 a4 a5 a6 a7 a8 a9 a10 (vp_updL a11 l val) a12 a13) : wX_layAtom_58 post J (nI k) x2 (nI 0) (nI l) (nI e) z0 (nI l) fh fa fe fk fs fd a1 a2 a3 a4 a5 a6 a7 a8 a9 a10 a11 a12 a13 := by
  unfold wX_layAtom_58
  have hs : nI 0 + nI l = nI l := by rw [nI_add, Nat.zero_add]
  have hc : (nI 0 + nI l).toNatClampNeg = l := by
    rw [hs]
    exact nI_clamp (by omega)
  exact tm_elementIn hl rfl hv hz (tm_atom hk he (tm_el3 hl)
    (fun z => ⟨pk_in l 378 (by omega) hs, nm_r (e' := vp_updL a11 l val) (by rw [hc, H0 z]) (nm_r (nI_1 l) H)⟩)
    (fun z => ⟨pk_in l 378 (by omega) hs, nm_r (e' := vp_updL a11 l val) (by rw [hc, H1 z]) (nm_r (nI_1 l) H)⟩))
theorem tm_la40 {post : St2 → Prop} {J : Int32 → (Nat → Int32) → (Nat → Int32) → (Nat → Int32) → (Nat → Int32) → (Nat → Int32) → (Nat → Int64) → (Nat → Int32) → (Nat → Int64) → (Nat → Int64) → (Nat → Int64) → (Nat → Int64) → (Nat → Int64) → (Nat → Int64) → Prop} {fh fa fe fk fs fd : Int32} {a1 a2 a3 a4 a5 a7 : Nat → Int32} {a6 a8 a9 a10 a11 a12 a13 : Nat → Int64} {z0 : Int32} {d k w l v : Nat} (hkw : tm_kw k w) (hl : l < 27) (hil : tm_il d l = true) (h8 : ∀ e, e < d → a8 e = tm_wd e) (h9 : ∀ e f, e < d → f < d → a9 (3 * e + f) = tm_wd (d + d * e + f))
    (hv : v < 3) (hz : z0 = nI v) (v0 : k = 0 → v = w) (v1 : k = 1 → v = w / 3) (H : J (nI (l + 1)) a1 a2 a3 a4 a5 a6 a7 a8 a9 a10 (vp_updL a11 l (tm_at d k w l)) a12 a13) : wX_layAtom_40 post J (nI k) (nI w) (nI 0) (nI l) z0 (nI l) fh fa fe fk fs fd a1 a2 a3 a4 a5 a6 a7 a8 a9 a10 a11 a12 a13 := by
  have hk := tm_kw_k hkw
  have hw := tm_kw_w hkw
  unfold wX_layAtom_40
  refine tm_elementIn hl rfl hv hz (pk_eq k 0
    (fun z => tm_la58 (v := w) (val := tm_at d k w l) hk hl (tm_el3 hl) (tm_kw_0 hkw z) rfl (fun _ => ?_) (fun z1 => absurd z1 (by omega)) H)
    (fun z => ⟨by decide, tm_la58 (v := w % 3) (val := tm_at d k w l) hk hl (tm_el3 hl) (by omega) (tm_rem3 (by omega)) (fun z0 => absurd z0 z) (fun z1 => ?_) H⟩))
  · rw [v0 z, h8 _ (tm_eld hil)]
    exact (if_pos z).symm
  · rw [v1 z1, h9 _ _ (tm_eld hil) (tm_eld hil)]
    exact (if_neg z).symm
theorem tm_la11 {post : St2 → Prop} {fh fa fe fk fd : Int32} {a1 a2 a3 a4 a5 a7 : Nat → Int32} {a6 a8 a9 a10 a11 a12 a13 : Nat → Int64} {d k w : Nat} (hd : d ≤ 3) (hkw : tm_kw k w) (h8 : ∀ e, e < d → a8 e = tm_wd e) (h9 : ∀ e f, e < d → f < d → a9 (3 * e + f) = tm_wd (d + d * e + f))
    (H : ∀ b, (∀ l, l < 27 → tm_il d l = true → b l = tm_at d k w l) → post (fh, fa, fe, fk, nI d, fd, a1, a2, a3, a4, a5, a6, a7, a8, a9, a10, b, a12, a13)) : ∃ n, wX_layAtom_11 post (nI k) (nI w) (nI 0) fh fa fe fk (nI d) fd n 0 a1 a2 a3 a4 a5 a6 a7 a8 a9 a10 a11 a12 a13 :=
  have hk := tm_kw_k hkw
  have hw9 := tm_kw_w hkw
  pk_loop (fun n i s => wX_layAtom_11 post (nI k) (nI w) (nI 0) fh fa fe fk (nI d) fd n (nI i) a1 a2 a3 a4 a5 a6 a7 a8 a9 a10 s a12 a13) (fun i s => ∀ l, l < i → tm_il d l = true → s l = tm_at d k w l) 27 0 a11 (by omega) (fun l z => absurd z (by omega))
    (fun n s h => pk_le 27 27 (fun _ => H s h) (fun z => absurd z (by omega)))
    (fun n i s hi h hw => pk_le 27 i (fun z => absurd z (by omega)) (fun _ => tm_isList hd hi
      (fun hil => br_f (by decide) (pk_eq k 0
        (fun z => tm_la40 (v := w) hkw hi hil h8 h9 (tm_kw_0 hkw z) rfl (fun _ => rfl) (fun z1 => absurd z1 (by omega)) (hw _ (tm_lainv h)))
        (fun z => ⟨by decide, tm_la40 (v := w / 3) hkw hi hil h8 h9 (by omega) (tm_div3 (by omega)) (fun z0 => absurd z0 z) (fun _ => rfl) (hw _ (tm_lainv h))⟩)))
      (fun hn => br_t rfl (nm_r (nI_1 i) (hw s (tm_laskip h hn))))))
theorem tm_layAtom {post : St2 → Prop} {fh fa fe fk : Int32} {a1 a2 a3 a4 a5 a7 : Nat → Int32} {a6 a8 a9 a10 a11 a12 a13 : Nat → Int64} {x y : Int32} {d k w : Nat} (hd : d ≤ 3) (hkw : tm_kw k w) (hx : x = nI k) (hy : y = nI w) (h8 : ∀ e, e < d → a8 e = tm_wd e) (h9 : ∀ e f, e < d → f < d → a9 (3 * e + f) = tm_wd (d + d * e + f))
    (H : ∀ b, (∀ l, l < 27 → tm_il d l = true → b l = tm_at d k w l) → post (fh, fa, fe, fk, nI d, 0, a1, a2, a3, a4, a5, a6, a7, a8, a9, a10, b, a12, a13)) : wpX_layAtom post (fh, fa, fe, fk, nI d, 0, a1, a2, a3, a4, a5, a6, a7, a8, a9, a10, a11, a12, a13) x y := by
  subst hx hy
  unfold wpX_layAtom
  exact nm_r (e' := nI 0) (by decide) (tm_la11 hd hkw h8 h9 H)
theorem tm_workOut {post : St2 → Prop} {fh fa fe fk fd : Int32} {a1 a2 a3 a4 a5 a7 : Nat → Int32} {a6 a8 a9 a10 a11 a12 a13 : Nat → Int64} {x y : Int32} {d k w fr : Nat} (hd : d ≤ 3) (hkw : tm_kw k w) (hf : fr < 288) (hx : x = nI fr) (hy : y = 1) (h1 : a1 fr = nI k) (h2 : a2 fr = nI w) (h8 : ∀ e, e < d → a8 e = tm_wd e) (h9 : ∀ e f, e < d → f < d → a9 (3 * e + f) = tm_wd (d + d * e + f))
    (H : ∀ b, (∀ l, l < 27 → tm_il d l = true → b l = tm_at d k w l) → post (fh, fa, fe, fk, nI d, 1, a1, a2, a3, a4, a5, a6, a7, a8, a9, a10, b, a12, a13)) : wpX_workOut post (fh, fa, fe, fk, nI d, fd, a1, a2, a3, a4, a5, a6, a7, a8, a9, a10, a11, a12, a13) x y := by
  have hk := tm_kw_k hkw
  have hc : (nI fr).toNatClampNeg = fr := nI_clamp (by omega)
  subst hx hy
  unfold wpX_workOut
  refine ⟨2, pk_le (fr + 1) fr (fun z => absurd z (by omega)) (fun _ => ⟨pk_in fr 288 hf, tm_taken k (by omega) (by rw [hc]; exact h1) (br_t rfl ⟨pk_in fr 288 hf, pk_in fr 288 hf, tm_layAtom hd hkw (by rw [hc]; exact h1) (by rw [hc]; exact h2) h8 h9 (fun b hb => ?_)⟩)⟩) (nI_1 fr) rfl⟩
  exact nm_r (e' := 1) (by decide) (nm_r (nI_1 fr) (pk_le (fr + 1) (fr + 1) (fun _ => H b hb) (fun z => absurd z (by omega)) (nI_1 fr) rfl))
theorem tm_validAxiom {post : Int64 → St2 → Prop} {fh fa fe fk fd : Int32} {a1 a2 a3 a4 a5 a7 : Nat → Int32} {a6 a8 a9 a10 a11 a12 a13 : Nat → Int64} {d k w : Nat} (hd : d ≤ 3) (hkw : tm_kw k w) (h1 : a1 144 = nI k) (h2 : a2 144 = nI w) (h5 : a5 0 = 1) (h8 : ∀ e, e < d → a8 e = tm_wd e) (h9 : ∀ e f, e < d → f < d → a9 (3 * e + f) = tm_wd (d + d * e + f))
    (H : ∀ b, post (tm_V d k w) (fh, fa, fe, fk, nI d, 1, a1, a2, a3, a4, a5, a6, a7, a8, a9, a10, b, a12, a13)) : wpX_validAxiom post (fh, fa, fe, fk, nI d, fd, a1, a2, a3, a4, a5, a6, a7, a8, a9, a10, a11, a12, a13) 0 := by
  unfold wpX_validAxiom
  exact ⟨pk_in 0 6 (by omega), tm_workOut (fr := 144) hd hkw (by omega) (by decide) (by rw [sb_cl0]; exact h5) h1 h2 h8 h9 (fun b hb => tm_validOnes hd hb (H b))⟩
theorem tm_modelsHere {post : Int64 → St2 → Prop} {fh fe fk fd : Int32} {a1 a2 a3 a4 a5 a7 : Nat → Int32} {a6 a8 a9 a10 a11 a12 a13 : Nat → Int64} {x : Int32} {d k w m : Nat} (hd : d = 1 ∨ d = 2) (hkw : tm_kw k w) (hx : x = nI d) (hm : m = 0 ∨ (m = 1 ∧ a1 144 = nI k ∧ a2 144 = nI w ∧ a5 0 = 1)) (h8 : ∀ e, e < d → a8 e = tm_wd e) (h9 : ∀ e f, e < d → f < d → a9 (3 * e + f) = tm_wd (d + d * e + f))
    (H : ∀ q b, post (tm_M m d k w) (fh, nI m, fe, fk, nI d, q, a1, a2, a3, a4, a5, a6, a7, a8, a9, a10, b, a12, a13)) : wpX_modelsHere post (fh, nI m, fe, fk, nI d, fd, a1, a2, a3, a4, a5, a6, a7, a8, a9, a10, a11, a12, a13) x (-1) := by
  unfold wpX_modelsHere
  refine tm_wholePart d hd hx ?_
  rcases hm with rfl | ⟨rfl, h1, h2, h5⟩
  · exact ⟨1, br_t (by decide) (H fd a11)⟩
  · have hw : ¬ tm_wh d = 0 := by
      rcases hd with rfl | rfl <;> decide
    exact ⟨2, br_f (by decide) (br_f hw (br_f (by decide) (tm_validAxiom (by omega) hkw h1 h2 h5 h8 h9 (fun b => nm_e (nm_r (e' := 1) (by decide) (br_t (by decide) (H 1 b)))))))⟩
theorem tm_la58_2 {post : St2 → Prop} {J : Int32 → (Nat → Int32) → (Nat → Int32) → (Nat → Int32) → (Nat → Int32) → (Nat → Int32) → (Nat → Int64) → (Nat → Int32) → (Nat → Int64) → (Nat → Int64) → (Nat → Int64) → (Nat → Int64) → (Nat → Int64) → (Nat → Int64) → Prop} {fh fa fe fk fs fd : Int32} {a1 a2 a3 a4 a5 a7 : Nat → Int32} {a6 a8 a9 a10 a11 a12 a13 : Nat → Int64} {x2 z0 : Int32} {k l e v : Nat} {val : Int64} (hk : k < 2) (hl : l < 27) (he : e < 3) (hv : v < 3) (hz : z0 = nI v)
    (H0 : k = 0 → a8 e = val) (H1 : k = 1 → a9 (3 * e + tm_el l v) = val) (H : J (nI (l + 1)) a1 a2 a3 a4 a5 a6 a7 a8 a9 a10 (vp_updL a11 l val) a12 a13) : wX_layAtom_2_58 post J (nI k) x2 (nI 0) (nI l) (nI e) z0 (nI l) fh fa fe fk fs fd a1 a2 a3 a4 a5 a6 a7 a8 a9 a10 a11 a12 a13 := by
  unfold wX_layAtom_2_58
  have hs : nI 0 + nI l = nI l := by rw [nI_add, Nat.zero_add]
  have hc : (nI 0 + nI l).toNatClampNeg = l := by
    rw [hs]
    exact nI_clamp (by omega)
  exact tm_elementIn hl rfl hv hz (tm_atom hk he (tm_el3 hl)
    (fun z => ⟨pk_in l 378 (by omega) hs, nm_r (e' := vp_updL a11 l val) (by rw [hc, H0 z]) (nm_r (nI_1 l) H)⟩)
    (fun z => ⟨pk_in l 378 (by omega) hs, nm_r (e' := vp_updL a11 l val) (by rw [hc, H1 z]) (nm_r (nI_1 l) H)⟩))
theorem tm_la40_2 {post : St2 → Prop} {J : Int32 → (Nat → Int32) → (Nat → Int32) → (Nat → Int32) → (Nat → Int32) → (Nat → Int32) → (Nat → Int64) → (Nat → Int32) → (Nat → Int64) → (Nat → Int64) → (Nat → Int64) → (Nat → Int64) → (Nat → Int64) → (Nat → Int64) → Prop} {fh fa fe fk fs fd : Int32} {a1 a2 a3 a4 a5 a7 : Nat → Int32} {a6 a8 a9 a10 a11 a12 a13 : Nat → Int64} {z0 : Int32} {d k w l v : Nat} (hkw : tm_kw k w) (hl : l < 27) (hil : tm_il d l = true) (h8 : ∀ e, e < d → a8 e = tm_wd e) (h9 : ∀ e f, e < d → f < d → a9 (3 * e + f) = tm_wd (d + d * e + f))
    (hv : v < 3) (hz : z0 = nI v) (v0 : k = 0 → v = w) (v1 : k = 1 → v = w / 3) (H : J (nI (l + 1)) a1 a2 a3 a4 a5 a6 a7 a8 a9 a10 (vp_updL a11 l (tm_at d k w l)) a12 a13) : wX_layAtom_2_40 post J (nI k) (nI w) (nI 0) (nI l) z0 (nI l) fh fa fe fk fs fd a1 a2 a3 a4 a5 a6 a7 a8 a9 a10 a11 a12 a13 := by
  have hk := tm_kw_k hkw
  have hw := tm_kw_w hkw
  unfold wX_layAtom_2_40
  refine tm_elementIn hl rfl hv hz (pk_eq k 0
    (fun z => tm_la58_2 (v := w) (val := tm_at d k w l) hk hl (tm_el3 hl) (tm_kw_0 hkw z) rfl (fun _ => ?_) (fun z1 => absurd z1 (by omega)) H)
    (fun z => ⟨by decide, tm_la58_2 (v := w % 3) (val := tm_at d k w l) hk hl (tm_el3 hl) (by omega) (tm_rem3 (by omega)) (fun z0 => absurd z0 z) (fun z1 => ?_) H⟩))
  · rw [v0 z, h8 _ (tm_eld hil)]
    exact (if_pos z).symm
  · rw [v1 z1, h9 _ _ (tm_eld hil) (tm_eld hil)]
    exact (if_neg z).symm
theorem tm_la11_2 {post : St2 → Prop} {fh fa fe fk fd : Int32} {a1 a2 a3 a4 a5 a7 : Nat → Int32} {a6 a8 a9 a10 a11 a12 a13 : Nat → Int64} {d k w : Nat} (hd : d ≤ 3) (hkw : tm_kw k w) (h8 : ∀ e, e < d → a8 e = tm_wd e) (h9 : ∀ e f, e < d → f < d → a9 (3 * e + f) = tm_wd (d + d * e + f))
    (H : ∀ b, (∀ l, l < 27 → tm_il d l = true → b l = tm_at d k w l) → post (fh, fa, fe, fk, nI d, fd, a1, a2, a3, a4, a5, a6, a7, a8, a9, a10, b, a12, a13)) : ∃ n, wX_layAtom_2_11 post (nI k) (nI w) (nI 0) fh fa fe fk (nI d) fd n 0 a1 a2 a3 a4 a5 a6 a7 a8 a9 a10 a11 a12 a13 :=
  have hk := tm_kw_k hkw
  have hw9 := tm_kw_w hkw
  pk_loop (fun n i s => wX_layAtom_2_11 post (nI k) (nI w) (nI 0) fh fa fe fk (nI d) fd n (nI i) a1 a2 a3 a4 a5 a6 a7 a8 a9 a10 s a12 a13) (fun i s => ∀ l, l < i → tm_il d l = true → s l = tm_at d k w l) 27 0 a11 (by omega) (fun l z => absurd z (by omega))
    (fun n s h => pk_le 27 27 (fun _ => H s h) (fun z => absurd z (by omega)))
    (fun n i s hi h hw => pk_le 27 i (fun z => absurd z (by omega)) (fun _ => tm_isList hd hi
      (fun hil => br_f (by decide) (pk_eq k 0
        (fun z => tm_la40_2 (v := w) hkw hi hil h8 h9 (tm_kw_0 hkw z) rfl (fun _ => rfl) (fun z1 => absurd z1 (by omega)) (hw _ (tm_lainv h)))
        (fun z => ⟨by decide, tm_la40_2 (v := w / 3) hkw hi hil h8 h9 (by omega) (tm_div3 (by omega)) (fun z0 => absurd z0 z) (fun _ => rfl) (hw _ (tm_lainv h))⟩)))
      (fun hn => br_t rfl (nm_r (nI_1 i) (hw s (tm_laskip h hn))))))
theorem tm_layAtom_2 {post : St2 → Prop} {fh fa fe fk : Int32} {a1 a2 a3 a4 a5 a7 : Nat → Int32} {a6 a8 a9 a10 a11 a12 a13 : Nat → Int64} {x y : Int32} {d k w : Nat} (hd : d ≤ 3) (hkw : tm_kw k w) (hx : x = nI k) (hy : y = nI w) (h8 : ∀ e, e < d → a8 e = tm_wd e) (h9 : ∀ e f, e < d → f < d → a9 (3 * e + f) = tm_wd (d + d * e + f))
    (H : ∀ b, (∀ l, l < 27 → tm_il d l = true → b l = tm_at d k w l) → post (fh, fa, fe, fk, nI d, 0, a1, a2, a3, a4, a5, a6, a7, a8, a9, a10, b, a12, a13)) : wpX_layAtom_2 post (fh, fa, fe, fk, nI d, 0, a1, a2, a3, a4, a5, a6, a7, a8, a9, a10, a11, a12, a13) x y := by
  subst hx hy
  unfold wpX_layAtom_2
  exact nm_r (e' := nI 0) (by decide) (tm_la11_2 hd hkw h8 h9 H)
theorem tm_workOut_2 {post : St2 → Prop} {fh fa fe fk fd : Int32} {a1 a2 a3 a4 a5 a7 : Nat → Int32} {a6 a8 a9 a10 a11 a12 a13 : Nat → Int64} {x y : Int32} {d k w fr : Nat} (hd : d ≤ 3) (hkw : tm_kw k w) (hf : fr < 288) (hx : x = nI fr) (hy : y = 1) (h1 : a1 fr = nI k) (h2 : a2 fr = nI w) (h8 : ∀ e, e < d → a8 e = tm_wd e) (h9 : ∀ e f, e < d → f < d → a9 (3 * e + f) = tm_wd (d + d * e + f))
    (H : ∀ b, (∀ l, l < 27 → tm_il d l = true → b l = tm_at d k w l) → post (fh, fa, fe, fk, nI d, 1, a1, a2, a3, a4, a5, a6, a7, a8, a9, a10, b, a12, a13)) : wpX_workOut_2 post (fh, fa, fe, fk, nI d, fd, a1, a2, a3, a4, a5, a6, a7, a8, a9, a10, a11, a12, a13) x y := by
  have hk := tm_kw_k hkw
  have hc : (nI fr).toNatClampNeg = fr := nI_clamp (by omega)
  subst hx hy
  unfold wpX_workOut_2
  refine ⟨2, pk_le (fr + 1) fr (fun z => absurd z (by omega)) (fun _ => ⟨pk_in fr 288 hf, tm_taken k (by omega) (by rw [hc]; exact h1) (br_t rfl ⟨pk_in fr 288 hf, pk_in fr 288 hf, tm_layAtom_2 hd hkw (by rw [hc]; exact h1) (by rw [hc]; exact h2) h8 h9 (fun b hb => ?_)⟩)⟩) (nI_1 fr) rfl⟩
  exact nm_r (e' := 1) (by decide) (nm_r (nI_1 fr) (pk_le (fr + 1) (fr + 1) (fun _ => H b hb) (fun z => absurd z (by omega)) (nI_1 fr) rfl))
theorem tm_validAxiom_2 {post : Int64 → St2 → Prop} {fh fa fe fk fd : Int32} {a1 a2 a3 a4 a5 a7 : Nat → Int32} {a6 a8 a9 a10 a11 a12 a13 : Nat → Int64} {d k w : Nat} (hd : d ≤ 3) (hkw : tm_kw k w) (h1 : a1 144 = nI k) (h2 : a2 144 = nI w) (h5 : a5 0 = 1) (h8 : ∀ e, e < d → a8 e = tm_wd e) (h9 : ∀ e f, e < d → f < d → a9 (3 * e + f) = tm_wd (d + d * e + f))
    (H : ∀ b, post (tm_V d k w) (fh, fa, fe, fk, nI d, 1, a1, a2, a3, a4, a5, a6, a7, a8, a9, a10, b, a12, a13)) : wpX_validAxiom_2 post (fh, fa, fe, fk, nI d, fd, a1, a2, a3, a4, a5, a6, a7, a8, a9, a10, a11, a12, a13) 0 := by
  unfold wpX_validAxiom_2
  exact ⟨pk_in 0 6 (by omega), tm_workOut_2 (fr := 144) hd hkw (by omega) (by decide) (by rw [sb_cl0]; exact h5) h1 h2 h8 h9 (fun b hb => tm_validOnes hd hb (H b))⟩
theorem tm_modelsHere_2 {post : Int64 → St2 → Prop} {fh fe fk fd : Int32} {a1 a2 a3 a4 a5 a7 : Nat → Int32} {a6 a8 a9 a10 a11 a12 a13 : Nat → Int64} {x : Int32} {d k w m : Nat} (hd : d = 1 ∨ d = 2) (hkw : tm_kw k w) (hx : x = nI d) (hm : m = 0 ∨ (m = 1 ∧ a1 144 = nI k ∧ a2 144 = nI w ∧ a5 0 = 1)) (h8 : ∀ e, e < d → a8 e = tm_wd e) (h9 : ∀ e f, e < d → f < d → a9 (3 * e + f) = tm_wd (d + d * e + f))
    (H : ∀ q b, post (tm_M m d k w) (fh, nI m, fe, fk, nI d, q, a1, a2, a3, a4, a5, a6, a7, a8, a9, a10, b, a12, a13)) : wpX_modelsHere_2 post (fh, nI m, fe, fk, nI d, fd, a1, a2, a3, a4, a5, a6, a7, a8, a9, a10, a11, a12, a13) x (-1) := by
  unfold wpX_modelsHere_2
  refine tm_wholePart d hd hx ?_
  rcases hm with rfl | ⟨rfl, h1, h2, h5⟩
  · exact ⟨1, br_t (by decide) (H fd a11)⟩
  · have hw : ¬ tm_wh d = 0 := by
      rcases hd with rfl | rfl <;> decide
    exact ⟨2, br_f (by decide) (br_f hw (br_f (by decide) (tm_validAxiom_2 (by omega) hkw h1 h2 h5 h8 h9 (fun b => nm_e (nm_r (e' := 1) (by decide) (br_t (by decide) (H 1 b)))))))⟩
theorem tm_modelsHere0 {post : Int64 → St2 → Prop} {fh fe fk fs fd : Int32} {a1 a2 a3 a4 a5 a7 : Nat → Int32} {a6 a8 a9 a10 a11 a12 a13 : Nat → Int64} {x : Int32} {d : Nat} (hd : d = 1 ∨ d = 2) (hx : x = nI d) (H : post (tm_wh d) (fh, 1, fe, fk, fs, fd, a1, a2, a3, a4, a5, a6, a7, a8, a9, a10, a11, a12, a13)) : wpX_modelsHere_2 post (fh, 1, fe, fk, fs, fd, a1, a2, a3, a4, a5, a6, a7, a8, a9, a10, a11, a12, a13) x 0 := by
  unfold wpX_modelsHere_2
  have hw : ¬ tm_wh d = 0 := by
    rcases hd with rfl | rfl <;> decide
  exact tm_wholePart d hd hx ⟨2, br_f (by decide) (br_f hw (br_t rfl (nm_r (e' := 1) (by decide) (br_t (by decide) H))))⟩
theorem tm_validTop {post : Int64 → St2 → Prop} {fa fe fk fd : Int32} {a1 a2 a3 a4 a5 a7 : Nat → Int32} {a6 a8 a9 a10 a11 a12 a13 : Nat → Int64} {d k w : Nat} (hd : d ≤ 3) (hkw : tm_kw k w) (h1 : a1 0 = nI k) (h2 : a2 0 = nI w) (h3 : a3 0 = 0) (h4 : a4 0 = 1) (h8 : ∀ e, e < d → a8 e = tm_wd e) (h9 : ∀ e f, e < d → f < d → a9 (3 * e + f) = tm_wd (d + d * e + f))
    (H : ∀ b, post (tm_V d k w) (1, fa, fe, fk, nI d, 1, a1, a2, a3, a4, a5, a6, a7, a8, a9, a10, b, a12, a13)) : wpX_validTop post (1, fa, fe, fk, nI d, fd, a1, a2, a3, a4, a5, a6, a7, a8, a9, a10, a11, a12, a13) := by
  have hc : ((1 : Int32) - 1).toNatClampNeg = 0 := by decide
  unfold wpX_validTop
  exact ⟨pk_in 0 6 (by omega) (by decide), pk_in 0 6 (by omega) (by decide), tm_workOut_2 (fr := 0) hd hkw (by omega) (by rw [hc]; exact h3) (by rw [hc]; exact h4) h1 h2 h8 h9 (fun b hb => tm_validOnes hd hb (H b))⟩
end
section
theorem tm_find_inv {s : Nat → Int64} {M : Int64} {i : Nat} (hi : i < 64) (h : 0 < i ∧ s 0 = M ∧ ∀ j, 0 < j → j < i → s j = 0) : 0 < i + 1 ∧ vp_updL s (nI i).toNatClampNeg 0 0 = M ∧ ∀ j, 0 < j → j < i + 1 → vp_updL s (nI i).toNatClampNeg 0 j = 0 := by
  rw [nI_clamp (by omega)]
  refine ⟨by omega, ?_, fun j h1 h2 => ?_⟩
  · rw [pk_uLn (by omega)]
    exact h.2.1
  · by_cases c : j = i
    · rw [c, pk_uLs]
    · rw [pk_uLn c]
      exact h.2.2 j h1 (by omega)
theorem tm_find_r {post : St2 → Prop} {fh fa fk fs fd : Int32} {a1 a2 a3 a4 a5 a7 : Nat → Int32} {a6 a8 a9 a10 a11 a12 a13 : Nat → Int64} {M : Int64} (h0 : a6 0 = M) (H : ∀ b6, b6 0 = M → (∀ j, 0 < j → j < 64 → b6 j = 0) → post (fh, fa, 2, fk, fs, fd, a1, a2, a3, a4, a5, b6, a7, a8, a9, a10, a11, a12, a13)) : wX_find_15 post 64 (nI 1) fh fa 2 fk fs fd a1 a2 a3 a4 a5 a6 a7 a8 a9 a10 a11 a12 a13 :=
  loop_i (fun n i s => wX_find_15 post n (nI i) fh fa 2 fk fs fd a1 a2 a3 a4 a5 s a7 a8 a9 a10 a11 a12 a13) (fun i s => 0 < i ∧ s 0 = M ∧ ∀ j, 0 < j → j < i → s j = 0) 64
    (fun n s h => pk_le 64 64 (fun _ => H s h.2.1 h.2.2) (fun z => absurd z (by omega)))
    (fun n i s hi h hw => pk_le 64 i (fun z => absurd z (by omega)) (fun _ => ⟨pk_in i 64 hi, nm_e (tm_partsOf 2 (Or.inr rfl) rfl (pk_le 1 i (fun _ => nm_r (nI_1 i) (hw _ (tm_find_inv hi h))) (fun z => absurd h.1 (by omega))))⟩))
    64 1 a6 (by omega) (by omega) ⟨by omega, h0, fun j h1 h2 => absurd h1 (by omega)⟩
theorem tm_find0 {post : St2 → Prop} {fh fs fd : Int32} {a1 a2 a3 a4 a5 a7 : Nat → Int32} {a6 a8 a9 a10 a11 a12 a13 : Nat → Int64} {k w m : Nat} (hkw : tm_kw k w) (hm : m = 0 ∨ (m = 1 ∧ a1 144 = nI k ∧ a2 144 = nI w ∧ a5 0 = 1))
    (H : ∀ q b6 b8 b9 b10 b11, b6 0 = tm_M m 2 k w → (∀ j, 0 < j → j < 64 → b6 j = 0) → post (fh, nI m, 2, 1, nI 2, q, a1, a2, a3, a4, a5, b6, a7, b8, b9, b10, b11, a12, a13)) : wpX_find post (fh, nI m, 2, 0, fs, fd, a1, a2, a3, a4, a5, a6, a7, a8, a9, a10, a11, a12, a13) := by
  unfold wpX_find
  refine br_t rfl ⟨65, pk_le 64 0 (fun z => absurd z (by omega)) (fun _ => ⟨pk_in 0 64 (by omega), nm_e (tm_partsOf 2 (Or.inr rfl) rfl (pk_le 1 0 (fun z => absurd z (by omega)) (fun _ => tm_layPart (d := 2) (Or.inr rfl) rfl (fun b8 b9 b10 h8 h9 => tm_modelsHere (d := 2) (m := m) (Or.inr rfl) hkw rfl hm h8 h9 (fun q b11 => ⟨pk_in 0 64 (by omega), nm_e (nm_r (e' := nI 1) (by decide) (tm_find_r (M := tm_M m 2 k w) ?_ (fun b6 h0 hj => H q b6 b8 b9 b10 b11 h0 hj)))⟩)))))⟩)⟩
  rw [sb_cl0, pk_uLs]
theorem tm_find1 {post : St2 → Prop} {fh fa fe fs fd : Int32} {a1 a2 a3 a4 a5 a7 : Nat → Int32} {a6 a8 a9 a10 a11 a12 a13 : Nat → Int64} (H : post (fh, fa, fe, 1, fs, fd, a1, a2, a3, a4, a5, a6, a7, a8, a9, a10, a11, a12, a13)) : wpX_find post (fh, fa, fe, 1, fs, fd, a1, a2, a3, a4, a5, a6, a7, a8, a9, a10, a11, a12, a13) := by
  unfold wpX_find
  exact br_f (by decide) H
theorem tm_models8 {post : Int32 → St2 → Prop} {fh fa fe fk fs fd : Int32} {a1 a2 a3 a4 a5 a7 : Nat → Int32} {a6 a8 a9 a10 a11 a12 a13 : Nat → Int64} {M : Int64} (h0 : a6 0 = M) (hj : ∀ j, 0 < j → j < 64 → a6 j = 0) (H : post (tm_on 64 M 0) (fh, fa, fe, fk, fs, fd, a1, a2, a3, a4, a5, a6, a7, a8, a9, a10, a11, a12, a13)) : ∃ n, wX_models_8 post fh fa fe fk fs fd a1 a2 a3 a4 a5 a6 a7 a8 a9 a10 a11 a12 a13 n 0 0 :=
  pk_loop (fun n i s => wX_models_8 post fh fa fe fk fs fd a1 a2 a3 a4 a5 a6 a7 a8 a9 a10 a11 a12 a13 n s (nI i)) (fun i s => s = if i = 0 then 0 else tm_on 64 M 0) 64 0 0 (by omega) rfl
    (fun n s h => pk_le 64 64 (fun _ => ek_v (P := fun x => post x (fh, fa, fe, fk, fs, fd, a1, a2, a3, a4, a5, a6, a7, a8, a9, a10, a11, a12, a13)) h H) (fun z => absurd z (by omega)))
    (fun n i s hi h hw => pk_le 64 i (fun z => absurd z (by omega)) (fun _ => ⟨pk_in i 64 hi, tm_ones (nm_r (e' := tm_on 64 M 0) (by
      have h' : s = if i = 0 then 0 else tm_on 64 M 0 := h
      rw [nI_clamp (by omega)]
      by_cases c : i = 0
      · rw [h', if_pos c, c, h0, Int32.zero_add]
      · rw [h', if_neg c, hj i (by omega) hi, tm_f_0, Int32.add_zero]) (nm_r (nI_1 i) (hw _ (if_neg (by omega)).symm)))⟩))
theorem tm_models0 {post : Int32 → St2 → Prop} {fh fs fd : Int32} {a1 a2 a3 a4 a5 a7 : Nat → Int32} {a6 a8 a9 a10 a11 a12 a13 : Nat → Int64} {k w m : Nat} (hkw : tm_kw k w) (hm : m = 0 ∨ (m = 1 ∧ a1 144 = nI k ∧ a2 144 = nI w ∧ a5 0 = 1))
    (H : ∀ q b6 b8 b9 b10 b11, b6 0 = tm_M m 2 k w → (∀ j, 0 < j → j < 64 → b6 j = 0) → post (tm_on 64 (tm_M m 2 k w) 0) (fh, nI m, 2, 1, nI 2, q, a1, a2, a3, a4, a5, b6, a7, b8, b9, b10, b11, a12, a13)) : wpX_models post (fh, nI m, 2, 0, fs, fd, a1, a2, a3, a4, a5, a6, a7, a8, a9, a10, a11, a12, a13) := by
  unfold wpX_models
  exact tm_find0 hkw hm (fun q b6 b8 b9 b10 b11 h0 hj => tm_models8 h0 hj (H q b6 b8 b9 b10 b11 h0 hj))
theorem tm_models1 {post : Int32 → St2 → Prop} {fh fa fe fs fd : Int32} {a1 a2 a3 a4 a5 a7 : Nat → Int32} {a6 a8 a9 a10 a11 a12 a13 : Nat → Int64} {M : Int64} (h0 : a6 0 = M) (hj : ∀ j, 0 < j → j < 64 → a6 j = 0) (H : post (tm_on 64 M 0) (fh, fa, fe, 1, fs, fd, a1, a2, a3, a4, a5, a6, a7, a8, a9, a10, a11, a12, a13)) : wpX_models post (fh, fa, fe, 1, fs, fd, a1, a2, a3, a4, a5, a6, a7, a8, a9, a10, a11, a12, a13) := by
  unfold wpX_models
  exact tm_find1 (tm_models8 h0 hj H)
theorem tm_agrX {post : Int32 → St2 → Prop} {fh fa fk fs fd : Int32} {a1 a2 a3 a4 a5 a7 : Nat → Int32} {a6 a8 a9 a10 a11 a12 a13 : Nat → Int64} {x : Int32} {n : Nat} (H : post x (fh, fa, 2, fk, fs, fd, a1, a2, a3, a4, a5, a6, a7, a8, a9, a10, a11, a12, a13)) : wX_agreeing_17 post (n + 1) x (nI 1) fh fa 2 fk fs fd a1 a2 a3 a4 a5 a6 a7 a8 a9 a10 a11 a12 a13 := by
  unfold wX_agreeing_17
  exact tm_partsOf 2 (Or.inr rfl) rfl (pk_le 1 1 (fun _ => H) (fun z => absurd z (by omega)))
theorem tm_agr0 {post : Int32 → St2 → Prop} {fa fs fd : Int32} {a1 a2 a3 a4 a5 a7 : Nat → Int32} {a6 a8 a9 a10 a11 a12 a13 : Nat → Int64} {k w n : Nat} (hkw : tm_kw k w) (h1 : a1 0 = nI k) (h2 : a2 0 = nI w) (h3 : a3 0 = 0) (h4 : a4 0 = 1) (h6 : a6 0 = -1)
    (H : ∀ b8 b9 b10 b11, post (0 + tm_on 64 (-1 &&& tm_V 2 k w) 0) (1, fa, 2, 1, nI 2, 1, a1, a2, a3, a4, a5, a6, a7, b8, b9, b10, b11, a12, a13)) : wX_agreeing_17 post (n + 1 + 1) 0 0 1 fa 2 1 fs fd a1 a2 a3 a4 a5 a6 a7 a8 a9 a10 a11 a12 a13 := by
  have h6' : a6 (0 : Int32).toNatClampNeg = -1 := by
    rw [sb_cl0]
    exact h6
  unfold wX_agreeing_17
  exact tm_partsOf 2 (Or.inr rfl) rfl (pk_le 1 0 (fun z => absurd z (by omega)) (fun _ => ⟨pk_in 0 64 (by omega), br_f (by rw [h6']; decide) (tm_layPart (d := 2) (Or.inr rfl) rfl (fun b8 b9 b10 h8 h9 => ⟨pk_in 0 64 (by omega), tm_validTop (d := 2) (by omega) hkw h1 h2 h3 h4 h8 h9 (fun b11 => nm_r (e' := -1 &&& tm_V 2 k w) (by rw [h6']) (tm_ones (nm_e (nm_r (e' := nI 1) (by decide) (tm_agrX (H b8 b9 b10 b11))))))⟩))⟩))
theorem tm_agreeing {post : Int32 → St2 → Prop} {fa fs fd : Int32} {a1 a2 a3 a4 a5 a7 : Nat → Int32} {a6 a8 a9 a10 a11 a12 a13 : Nat → Int64} {k w : Nat} (hkw : tm_kw k w) (h1 : a1 0 = nI k) (h2 : a2 0 = nI w) (h3 : a3 0 = 0) (h4 : a4 0 = 1) (h6 : a6 0 = -1)
    (H : ∀ b8 b9 b10 b11, post (0 + tm_on 64 (-1 &&& tm_V 2 k w) 0) (1, fa, 2, 1, nI 2, 1, a1, a2, a3, a4, a5, a6, a7, b8, b9, b10, b11, a12, a13)) : wpX_agreeing post (1, fa, 2, 1, fs, fd, a1, a2, a3, a4, a5, a6, a7, a8, a9, a10, a11, a12, a13) := by
  unfold wpX_agreeing
  exact br_f (by decide) (tm_find1 ⟨2, tm_agr0 (n := 0) hkw h1 h2 h3 h4 h6 H⟩)
theorem tm_follows {post : Int32 → St2 → Prop} {fs fd : Int32} {a1 a2 a3 a4 a5 a7 : Nat → Int32} {a6 a8 a9 a10 a11 a12 a13 : Nat → Int64} {k w : Nat} (hkw : tm_kw k w) (h1 : a1 0 = nI k) (h2 : a2 0 = nI w) (h3 : a3 0 = 0) (h4 : a4 0 = 1)
    (H : ∀ b6 b8 b9 b10 b11, post 0 (1, 0, 2, 1, nI 2, 1, a1, a2, a3, a4, a5, b6, a7, b8, b9, b10, b11, a12, a13)) : wpX_follows post (1, 0, 2, 0, fs, fd, a1, a2, a3, a4, a5, a6, a7, a8, a9, a10, a11, a12, a13) := by
  unfold wpX_follows
  exact br_f (by decide) (tm_models0 (m := 0) hkw (Or.inl rfl) (fun q b6 b8 b9 b10 b11 h0 hj => tm_agreeing hkw h1 h2 h3 h4 h0 (fun c8 c9 c10 c11 => br_f (tm_f_fol k (tm_kw_k hkw) w (tm_kw_w hkw) (tm_kw_0 hkw)) (H b6 c8 c9 c10 c11))))
theorem tm_copy1 {post : St2 → Prop} {fh fa fe fk fs fd : Int32} {a1 a2 a3 a4 a5 a7 : Nat → Int32} {a6 a8 a9 a10 a11 a12 a13 : Nat → Int64} {x y z : Int32} (hx : x = 0) (hy : y = nI 144) (hz : z = 1) (H : ∀ b1 b2, b1 144 = a1 0 → b2 144 = a2 0 → post (fh, fa, fe, fk, fs, fd, b1, b2, a3, a4, a5, a6, a7, a8, a9, a10, a11, a12, a13)) : wpX_copy post (fh, fa, fe, fk, fs, fd, a1, a2, a3, a4, a5, a6, a7, a8, a9, a10, a11, a12, a13) x y z := by
  subst hx hy hz
  have c1 : (nI 144 + 0).toNatClampNeg = 144 := by decide
  have c2 : ((0 : Int32) + 0).toNatClampNeg = 0 := by decide
  unfold wpX_copy
  exact ⟨2, br_f (by decide) ⟨pk_in 0 288 (by omega) (by decide), pk_in 144 288 (by omega) (by decide), nm_e ⟨pk_in 0 288 (by omega) (by decide), pk_in 144 288 (by omega) (by decide), nm_e (nm_r (e' := 1) (by decide) (br_t (by decide) (H _ _ (by rw [c1, c2, pk_us]) (by rw [c1, c2, pk_us]))))⟩⟩⟩
theorem tm_axi1 {post : Int32 → St2 → Prop} {fe fk fs fd : Int32} {a1 a2 a3 a4 a5 a7 : Nat → Int32} {a6 a8 a9 a10 a11 a12 a13 : Nat → Int64} (h3 : a3 0 = 0) (h4 : a4 0 = 1) (H : ∀ b1 b2 b5, b1 144 = a1 0 → b2 144 = a2 0 → b5 0 = 1 → post 1 (0, 1, fe, 0, fs, fd, b1, b2, a3, a4, b5, a6, a7, a8, a9, a10, a11, a12, a13)) : wpX_axiom post (1, 0, fe, fk, fs, fd, a1, a2, a3, a4, a5, a6, a7, a8, a9, a10, a11, a12, a13) := by
  unfold wpX_axiom
  exact br_f (by decide) (br_t (by decide) (nm_r (e' := 0) (by decide) ⟨pk_in 0 6 (by omega), pk_in 0 6 (by omega), tm_copy1 (by rw [sb_cl0]; exact h3) (by decide) (by rw [sb_cl0]; exact h4) (fun b1 b2 e1 e2 => ⟨pk_in 0 6 (by omega), pk_in 0 6 (by omega), nm_e (nm_r (e' := 1) (by decide) (H b1 b2 _ e1 e2 (by rw [sb_cl0, pk_us]; exact h4)))⟩)⟩))
theorem tm_axi0 {post : Int32 → St2 → Prop} {fa fe fk fs fd : Int32} {a1 a2 a3 a4 a5 a7 : Nat → Int32} {a6 a8 a9 a10 a11 a12 a13 : Nat → Int64} (H : post (-1) (0, fa, fe, fk, fs, fd, a1, a2, a3, a4, a5, a6, a7, a8, a9, a10, a11, a12, a13)) : wpX_axiom post (0, fa, fe, fk, fs, fd, a1, a2, a3, a4, a5, a6, a7, a8, a9, a10, a11, a12, a13) := by
  unfold wpX_axiom
  exact br_t rfl H
end
section
def tm_fb (x : Int32) (y : Int64) : Int32 := if x = 0 then (if y = 0 then 0 else 1) else 1
theorem tm_fb_k (y z : Int64) : tm_fb (tm_fb 0 y) (0 &&& z) = tm_fb 0 y := by
  rw [Int64.zero_and]
  unfold tm_fb
  by_cases c : y = 0
  · rw [if_pos rfl, if_pos c]
    decide
  · rw [if_pos rfl, if_neg c]
    decide
theorem tm_fo67 {post : Int32 → St2 → Prop} {J : Int32 → Int32 → Int32 → Prop} {fh fa fe fk fs fd : Int32} {a1 a2 a3 a4 a5 a7 : Nat → Int32} {a6 a8 a9 a10 a11 a12 a13 : Nat → Int64} {x1 x3 z0 : Int32} {x5 : Int64} {i : Nat} (hi : i < 64) (H : J z0 (tm_fb x3 (a6 i &&& (x5 ^^^ (-1)))) (nI (i + 1))) : wX_forced_67 post J x1 x3 (nI i) x5 z0 fh fa fe fk fs fd a1 a2 a3 a4 a5 a6 a7 a8 a9 a10 a11 a12 a13 := by
  have hc : (nI i).toNatClampNeg = i := nI_clamp (by omega)
  unfold wX_forced_67
  rw [hc]
  refine br_c (fun z => ⟨pk_in i 64 hi, br_c (fun y => nm_r (nI_1 i) ?_) (fun y => nm_r (nI_1 i) ?_)⟩) (fun z => nm_r (nI_1 i) ?_)
  · have e : tm_fb x3 (a6 i &&& (x5 ^^^ (-1))) = 0 := by
      unfold tm_fb
      rw [if_pos z, if_pos y]
    rw [e] at H
    exact H
  · have e : tm_fb x3 (a6 i &&& (x5 ^^^ (-1))) = 1 := by
      unfold tm_fb
      rw [if_pos z, if_neg y]
    rw [e] at H
    exact H
  · have e : tm_fb x3 (a6 i &&& (x5 ^^^ (-1))) = 1 := by
      unfold tm_fb
      rw [if_neg z]
    rw [e] at H
    exact H
theorem tm_fo_step {post : Int32 → St2 → Prop} {fh fa fe fk fs fd : Int32} {a1 a2 a3 a4 a5 a7 : Nat → Int32} {a6 a8 a9 a10 a11 a12 a13 : Nat → Int64} {x2 x3 : Int32} {b i n : Nat} (hb : b < 6) (hi : i < 64) (H : wX_forced_28 post (nI b) fh fa fe fk fs fd a1 a2 a3 a4 a5 a6 a7 a8 a9 a10 a11 a12 a13 n (tm_fb x2 (a6 i &&& tm_wd b)) (tm_fb x3 (a6 i &&& (tm_wd b ^^^ (-1)))) (nI (i + 1))) : wX_forced_28 post (nI b) fh fa fe fk fs fd a1 a2 a3 a4 a5 a6 a7 a8 a9 a10 a11 a12 a13 (n + 1) x2 x3 (nI i) := by
  have hc : (nI i).toNatClampNeg = i := nI_clamp (by omega)
  refine pk_le 64 i (fun z => absurd z (by omega)) (fun _ => tm_withDigit b hb rfl (br_c (fun z => ⟨pk_in i 64 hi, br_c (fun y => tm_fo67 hi ?_) (fun y => tm_fo67 hi ?_)⟩) (fun z => tm_fo67 hi ?_)))
  · rw [hc] at y
    have e : tm_fb x2 (a6 i &&& tm_wd b) = 0 := by
      unfold tm_fb
      rw [if_pos z, if_pos y]
    rw [e] at H
    exact H
  · rw [hc] at y
    have e : tm_fb x2 (a6 i &&& tm_wd b) = 1 := by
      unfold tm_fb
      rw [if_pos z, if_neg y]
    rw [e] at H
    exact H
  · have e : tm_fb x2 (a6 i &&& tm_wd b) = 1 := by
      unfold tm_fb
      rw [if_neg z]
    rw [e] at H
    exact H
theorem tm_fo_end {post : Int32 → St2 → Prop} {fh fa fe fk fs fd : Int32} {a1 a2 a3 a4 a5 a7 : Nat → Int32} {a6 a8 a9 a10 a11 a12 a13 : Nat → Int64} {M : Int64} {b n : Nat} (H : post (tm_fo M b) (fh, fa, fe, fk, fs, fd, a1, a2, a3, a4, a5, a6, a7, a8, a9, a10, a11, a12, a13)) : wX_forced_28 post (nI b) fh fa fe fk fs fd a1 a2 a3 a4 a5 a6 a7 a8 a9 a10 a11 a12 a13 (n + 1) (tm_fb 0 (M &&& tm_wd b)) (tm_fb 0 (M &&& (tm_wd b ^^^ (-1)))) 64 := by
  have t1 : (1 : Int32) ≠ 0 := by decide
  refine br_t (by decide) ?_
  unfold tm_fo at H
  unfold tm_fb
  rw [if_pos rfl, if_pos rfl]
  by_cases c1 : M &&& tm_wd b = 0
  · rw [if_pos c1] at H
    rw [if_pos c1]
    by_cases c2 : M &&& (tm_wd b ^^^ (-1)) = 0
    · rw [if_pos c2] at H
      rw [if_pos c2]
      exact br_t rfl (br_t rfl (br_t rfl H))
    · rw [if_neg c2] at H
      rw [if_neg c2]
      exact br_t rfl (br_t rfl (br_f t1 H))
  · rw [if_neg c1] at H
    rw [if_neg c1]
    by_cases c2 : M &&& (tm_wd b ^^^ (-1)) = 0
    · rw [if_pos c2] at H
      rw [if_pos c2]
      exact br_f t1 (br_t rfl (br_f t1 H))
    · rw [if_neg c2] at H
      rw [if_neg c2]
      exact br_f t1 (br_f t1 H)
theorem tm_fo28 {post : Int32 → St2 → Prop} {fh fa fe fk fs fd : Int32} {a1 a2 a3 a4 a5 a7 : Nat → Int32} {a6 a8 a9 a10 a11 a12 a13 : Nat → Int64} {M : Int64} {b : Nat} (hb : b < 6) (h0 : a6 0 = M) (hj : ∀ j, 0 < j → j < 64 → a6 j = 0) (H : post (tm_fo M b) (fh, fa, fe, fk, fs, fd, a1, a2, a3, a4, a5, a6, a7, a8, a9, a10, a11, a12, a13)) : ∃ n, wX_forced_28 post (nI b) fh fa fe fk fs fd a1 a2 a3 a4 a5 a6 a7 a8 a9 a10 a11 a12 a13 n 0 0 0 := by
  refine pk_loop (fun n i (s : Int32 × Int32) => wX_forced_28 post (nI b) fh fa fe fk fs fd a1 a2 a3 a4 a5 a6 a7 a8 a9 a10 a11 a12 a13 n s.1 s.2 (nI i)) (fun i s => s = if i = 0 then (0, 0) else (tm_fb 0 (M &&& tm_wd b), tm_fb 0 (M &&& (tm_wd b ^^^ (-1))))) 64 0 (0, 0) (by omega) rfl ?_ ?_
  · intro n s h
    have h' : s = (tm_fb 0 (M &&& tm_wd b), tm_fb 0 (M &&& (tm_wd b ^^^ (-1)))) := h
    subst h'
    exact tm_fo_end H
  · intro n i s hi h hw
    have h' : s = if i = 0 then (0, 0) else (tm_fb 0 (M &&& tm_wd b), tm_fb 0 (M &&& (tm_wd b ^^^ (-1)))) := h
    refine tm_fo_step hb hi ?_
    have key := hw (tm_fb 0 (M &&& tm_wd b), tm_fb 0 (M &&& (tm_wd b ^^^ (-1)))) (if_neg (by omega)).symm
    by_cases c : i = 0
    · rw [if_pos c] at h'
      rw [h', c, h0]
      rw [c] at key
      exact key
    · rw [if_neg c] at h'
      rw [h', hj i (by omega) hi]
      show wX_forced_28 post (nI b) fh fa fe fk fs fd a1 a2 a3 a4 a5 a6 a7 a8 a9 a10 a11 a12 a13 n (tm_fb (tm_fb 0 (M &&& tm_wd b)) (0 &&& tm_wd b)) (tm_fb (tm_fb 0 (M &&& (tm_wd b ^^^ (-1)))) (0 &&& (tm_wd b ^^^ (-1)))) (nI (i + 1))
      rw [tm_fb_k, tm_fb_k]
      exact key
theorem tm_forced {post : Int32 → St2 → Prop} {fh fa fs fd : Int32} {a1 a2 a3 a4 a5 a7 : Nat → Int32} {a6 a8 a9 a10 a11 a12 a13 : Nat → Int64} {M : Int64} {b : Nat} (hb : b < 6) (h0 : a6 0 = M) (hj : ∀ j, 0 < j → j < 64 → a6 j = 0) (H : post (tm_fo M b) (fh, fa, 2, 1, fs, fd, a1, a2, a3, a4, a5, a6, a7, a8, a9, a10, a11, a12, a13)) : wpX_forced post (fh, fa, 2, 1, fs, fd, a1, a2, a3, a4, a5, a6, a7, a8, a9, a10, a11, a12, a13) (nI b) := by
  unfold wpX_forced
  refine pk_lt b 0 (fun z => absurd z (by omega)) (fun _ => ?_)
  unfold wpX_digits
  exact pk_lt b 6 (fun _ => tm_find1 (tm_fo28 hb h0 hj H)) (fun z => absurd z (by omega)) rfl (by decide)
theorem tm_forcedN {post : Int32 → St2 → Prop} {fh fa fs fd : Int32} {a1 a2 a3 a4 a5 a7 : Nat → Int32} {a6 a8 a9 a10 a11 a12 a13 : Nat → Int64} {x : Int32} (hx : x < 0 ∨ 6 ≤ x) (H : post (-1) (fh, fa, 2, 1, fs, fd, a1, a2, a3, a4, a5, a6, a7, a8, a9, a10, a11, a12, a13)) : wpX_forced post (fh, fa, 2, 1, fs, fd, a1, a2, a3, a4, a5, a6, a7, a8, a9, a10, a11, a12, a13) x := by
  unfold wpX_forced
  refine br_c (fun _ => H) (fun z => ?_)
  unfold wpX_digits
  refine br_f ?_ H
  rcases hx with h | h
  · exact absurd h z
  · show ¬ x < 6
    rw [Int32.lt_iff_toInt_lt]
    rw [Int32.le_iff_toInt_le] at h
    omega
theorem tm_interp {post : Int32 → Prop} {fh fa fk fs fd : Int32} {a1 a2 a3 a4 a5 a7 : Nat → Int32} {a6 a8 a9 a10 a11 a12 a13 : Nat → Int64} (H : post 64) : wpX_interpretations post (fh, fa, 2, fk, fs, fd, a1, a2, a3, a4, a5, a6, a7, a8, a9, a10, a11, a12, a13) := by
  have e : (1 : Int32) <<< (((2 : Int32) + 2 * 2) &&& 31) = 64 := by decide
  show post ((1 : Int32) <<< (((2 : Int32) + 2 * 2) &&& 31))
  rw [e]
  exact H
theorem tm_shr6 : ∀ g, g < 64 → nI g >>> ((6 : Int32) &&& 31) = 0 := by decide +kernel
theorem tm_next34 {post : Int32 → St2 → Prop} {fh fa fe fk fs fd : Int32} {a1 a2 a3 a4 a5 a7 : Nat → Int32} {a6 a8 a9 a10 a11 a12 a13 : Nat → Int64} {M : Int64} {g n : Nat} (hg : g < 64) (h0 : a6 0 = M) (hn : ¬ tm_hr M (nI g) = 0) (H : post (64 * 0 + tm_lw (tm_hr M (nI g)) 64 0) (fh, fa, fe, fk, fs, fd, a1, a2, a3, a4, a5, a6, a7, a8, a9, a10, a11, a12, a13)) : wX_next_34 post (nI g) fh fa fe fk fs fd a1 a2 a3 a4 a5 a6 a7 a8 a9 a10 a11 a12 a13 (n + 1) 0 :=
  br_f (by decide) ⟨pk_in 0 64 (by omega), nm_r (e' := M) (by rw [sb_cl0]; exact h0) (br_t (tm_shr6 g hg).symm (nm_r (e' := tm_hr M (nI g)) rfl (br_f hn (tm_lowest H))))⟩
theorem tm_nextA {post : Int32 → St2 → Prop} {fh fa fs fd : Int32} {a1 a2 a3 a4 a5 a7 : Nat → Int32} {a6 a8 a9 a10 a11 a12 a13 : Nat → Int64} {x : Int32} (hx : ¬ x < 63) (H : post (-2) (fh, fa, 2, 1, fs, fd, a1, a2, a3, a4, a5, a6, a7, a8, a9, a10, a11, a12, a13)) : wpX_next post (fh, fa, 2, 1, fs, fd, a1, a2, a3, a4, a5, a6, a7, a8, a9, a10, a11, a12, a13) x := by
  unfold wpX_next
  exact tm_find1 (tm_interp (br_f (by rw [show (64 : Int32) - 1 = 63 from by decide]; exact hx) H))
theorem tm_nextB {post : Int32 → St2 → Prop} {fh fa fs fd : Int32} {a1 a2 a3 a4 a5 a7 : Nat → Int32} {a6 a8 a9 a10 a11 a12 a13 : Nat → Int64} {M : Int64} {x : Int32} {g : Nat} (hg : g < 64) (hx : x < 63) (hc : (¬ 0 ≤ x ∧ g = 0) ∨ (0 ≤ x ∧ x + 1 = nI g)) (h0 : a6 0 = M) (hn : ¬ tm_hr M (nI g) = 0) (H : post (64 * 0 + tm_lw (tm_hr M (nI g)) 64 0) (fh, fa, 2, 1, fs, fd, a1, a2, a3, a4, a5, a6, a7, a8, a9, a10, a11, a12, a13)) : wpX_next post (fh, fa, 2, 1, fs, fd, a1, a2, a3, a4, a5, a6, a7, a8, a9, a10, a11, a12, a13) x := by
  unfold wpX_next
  refine tm_find1 (tm_interp (br_t (by rw [show (64 : Int32) - 1 = 63 from by decide]; exact hx) ?_))
  rcases hc with ⟨h, rfl⟩ | ⟨h, e⟩
  · exact br_f h (nm_r (e' := 0) (by decide) ⟨1, tm_next34 (g := 0) hg h0 hn H⟩)
  · exact br_t h (nm_r (e' := nI g) e (nm_r (e' := 0) (tm_shr6 g hg) ⟨1, tm_next34 hg h0 hn H⟩))
theorem tm_isModel {post : Int32 → St2 → Prop} {fh fa fs fd : Int32} {a1 a2 a3 a4 a5 a7 : Nat → Int32} {a6 a8 a9 a10 a11 a12 a13 : Nat → Int64} {c : Nat} (hc : c < 3) (h0 : a6 0 = tm_ma c) (H : post 1 (fh, fa, 2, 1, fs, fd, a1, a2, a3, a4, a5, a6, a7, a8, a9, a10, a11, a12, a13)) : wpX_isModel post (fh, fa, 2, 1, fs, fd, a1, a2, a3, a4, a5, a6, a7, a8, a9, a10, a11, a12, a13) (nI (tm_mu c)) := by
  have hu := tm_mu64 c hc
  have hs := tm_shr6 (tm_mu c) hu
  unfold wpX_isModel
  unfold wpX_isNumber
  refine pk_lt (tm_mu c) 0 (fun z => absurd z (by omega)) (fun _ => tm_interp (pk_le 64 (tm_mu c) (fun z => absurd z (by omega)) (fun _ => br_f (by decide) (tm_find1 ⟨pk_in 0 64 (by omega) hs, ?_⟩))))
  rw [hs, sb_cl0, h0, tm_f_is c hc]
  exact H
theorem tm_ind16 {post : Int32 → St2 → Prop} {fh fk fs fd : Int32} {a1 a2 a3 a4 a5 a7 : Nat → Int32} {a6 a8 a9 a10 a11 a12 a13 : Nat → Int64} {k w n : Nat} (hkw : tm_kw k w) (h1 : a1 144 = nI k) (h2 : a2 144 = nI w) (h5 : a5 0 = 1) (H : ∀ q b8 b9 b10 b11, post 1 (fh, 1, 2, fk, nI 2, q, a1, a2, a3, a4, a5, a6, a7, b8, b9, b10, b11, a12, a13)) : wX_independent_16 post 0 (n + 1) 0 fh 1 2 fk fs fd a1 a2 a3 a4 a5 a6 a7 a8 a9 a10 a11 a12 a13 := by
  unfold wX_independent_16
  exact tm_partsOf 2 (Or.inr rfl) rfl (pk_le 1 0 (fun z => absurd z (by omega)) (fun _ => tm_layPart (d := 2) (Or.inr rfl) rfl (fun b8 b9 b10 h8 h9 => tm_modelsHere0 (d := 2) (Or.inr rfl) rfl (br_f (by decide) (tm_validAxiom_2 (d := 2) (by omega) hkw h1 h2 h5 h8 h9 (fun b11 => nm_e (br_f (tm_f_ind k (tm_kw_k hkw) w (tm_kw_w hkw) (tm_kw_0 hkw)) (H 1 b8 b9 b10 b11))))))))
theorem tm_independent {post : Int32 → St2 → Prop} {fh fk fs fd : Int32} {a1 a2 a3 a4 a5 a7 : Nat → Int32} {a6 a8 a9 a10 a11 a12 a13 : Nat → Int64} {k w : Nat} (hkw : tm_kw k w) (h1 : a1 144 = nI k) (h2 : a2 144 = nI w) (h5 : a5 0 = 1) (H : ∀ q b8 b9 b10 b11, post 1 (fh, 1, 2, fk, nI 2, q, a1, a2, a3, a4, a5, a6, a7, b8, b9, b10, b11, a12, a13)) : wpX_independent post (fh, 1, 2, fk, fs, fd, a1, a2, a3, a4, a5, a6, a7, a8, a9, a10, a11, a12, a13) 0 := by
  unfold wpX_independent
  exact br_f (by decide) (br_t (by decide) ⟨1, tm_ind16 (n := 0) hkw h1 h2 h5 H⟩)
theorem tm_ge1 {x : Int32} (h : ¬ x < 0) (h0 : ¬ x = 0) : ¬ x < 1 := by
  obtain ⟨j, hj, rfl⟩ := nI_of h
  exact nI_nlt (b := 1) (by
    rcases Nat.eq_zero_or_pos j with z | z
    · subst z
      exact absurd rfl h0
    · exact z) hj
theorem tm_independentN {post : Int32 → St2 → Prop} {fh fe fk fs fd : Int32} {a1 a2 a3 a4 a5 a7 : Nat → Int32} {a6 a8 a9 a10 a11 a12 a13 : Nat → Int64} {x : Int32} (hx : ¬ x = 0) (H : post (-1) (fh, 1, fe, fk, fs, fd, a1, a2, a3, a4, a5, a6, a7, a8, a9, a10, a11, a12, a13)) : wpX_independent post (fh, 1, fe, fk, fs, fd, a1, a2, a3, a4, a5, a6, a7, a8, a9, a10, a11, a12, a13) x := by
  unfold wpX_independent
  exact br_c (fun _ => H) (fun z => br_f (tm_ge1 z hx) H)
theorem tm_sma9 {post : Int32 → St2 → Prop} {J : Int32 → Int32 → Int32 → Int32 → Int32 → Int32 → Int32 → (Nat → Int32) → (Nat → Int32) → (Nat → Int32) → (Nat → Int32) → (Nat → Int32) → (Nat → Int64) → (Nat → Int32) → (Nat → Int64) → (Nat → Int64) → (Nat → Int64) → (Nat → Int64) → (Nat → Int64) → (Nat → Int64) → Prop} {fh fe fk fs fd : Int32} {a1 a2 a3 a4 a5 a7 : Nat → Int32} {a6 a8 a9 a10 a11 a12 a13 : Nat → Int64} {k w n : Nat} (hkw : tm_kw k w) (h1 : a1 144 = nI k) (h2 : a2 144 = nI w) (h5 : a5 0 = 1) (H : ∀ q b8 b9 b10 b11, post 1 (fh, 1, fe, fk, nI 1, q, a1, a2, a3, a4, a5, a6, a7, b8, b9, b10, b11, a12, a13)) : wX_smallest_9 post J 1 (n + 1) 0 fh 1 fe fk fs fd a1 a2 a3 a4 a5 a6 a7 a8 a9 a10 a11 a12 a13 := by
  unfold wX_smallest_9
  exact tm_partsOf 1 (Or.inl rfl) rfl (pk_le 1 0 (fun z => absurd z (by omega)) (fun _ => tm_layPart (d := 1) (Or.inl rfl) rfl (fun b8 b9 b10 h8 h9 => tm_modelsHere_2 (d := 1) (m := 1) (Or.inl rfl) hkw rfl (Or.inr ⟨rfl, h1, h2, h5⟩) h8 h9 (fun q b11 => br_f (tm_f_sma k (tm_kw_k hkw) w (tm_kw_w hkw) (tm_kw_0 hkw)) (H q b8 b9 b10 b11)))))
theorem tm_smallest {post : Int32 → St2 → Prop} {fh fe fk fs fd : Int32} {a1 a2 a3 a4 a5 a7 : Nat → Int32} {a6 a8 a9 a10 a11 a12 a13 : Nat → Int64} {k w : Nat} (hkw : tm_kw k w) (h1 : a1 144 = nI k) (h2 : a2 144 = nI w) (h5 : a5 0 = 1) (H : ∀ q b8 b9 b10 b11, post 1 (fh, 1, fe, fk, nI 1, q, a1, a2, a3, a4, a5, a6, a7, b8, b9, b10, b11, a12, a13)) : wpX_smallest post (fh, 1, fe, fk, fs, fd, a1, a2, a3, a4, a5, a6, a7, a8, a9, a10, a11, a12, a13) := by
  unfold wpX_smallest
  exact ⟨1, br_f (by decide) ⟨1, tm_sma9 (n := 0) hkw h1 h2 h5 H⟩⟩
theorem tm_retract {post : Int32 → St2 → Prop} {fh fe fk fs fd : Int32} {a1 a2 a3 a4 a5 a7 : Nat → Int32} {a6 a8 a9 a10 a11 a12 a13 : Nat → Int64} (H : post 0 (fh, 0, fe, 0, fs, fd, a1, a2, a3, a4, a5, a6, a7, a8, a9, a10, a11, a12, a13)) : wpX_retract post (fh, 1, fe, fk, fs, fd, a1, a2, a3, a4, a5, a6, a7, a8, a9, a10, a11, a12, a13) 0 := by
  unfold wpX_retract
  exact br_f (by decide) (br_t (by decide) (nm_r (e' := 0) (by decide) ⟨1, br_t (by decide) H⟩))
theorem tm_retractN {post : Int32 → St2 → Prop} {fh fe fk fs fd : Int32} {a1 a2 a3 a4 a5 a7 : Nat → Int32} {a6 a8 a9 a10 a11 a12 a13 : Nat → Int64} {x : Int32} (hx : ¬ x = 0) (H : post (-1) (fh, 1, fe, fk, fs, fd, a1, a2, a3, a4, a5, a6, a7, a8, a9, a10, a11, a12, a13)) : wpX_retract post (fh, 1, fe, fk, fs, fd, a1, a2, a3, a4, a5, a6, a7, a8, a9, a10, a11, a12, a13) x := by
  unfold wpX_retract
  exact br_c (fun _ => H) (fun z => br_f (tm_ge1 z hx) H)
theorem tm_next {post : Int32 → St2 → Prop} {fh fa fs fd : Int32} {a1 a2 a3 a4 a5 a7 : Nat → Int32} {a6 a8 a9 a10 a11 a12 a13 : Nat → Int64} {x : Int32} {c : Nat} (hc : c < 3) (h0 : a6 0 = tm_ma c) (H : post (tm_nxv (fun m => decide (x < nI m)) (nI (tm_mu c)) 64) (fh, fa, 2, 1, fs, fd, a1, a2, a3, a4, a5, a6, a7, a8, a9, a10, a11, a12, a13)) : wpX_next post (fh, fa, 2, 1, fs, fd, a1, a2, a3, a4, a5, a6, a7, a8, a9, a10, a11, a12, a13) x := by
  rcases pk_ix x (n := 63) (by omega) with h | h | ⟨j, hj, rfl⟩
  · have t := tm_f_nx c hc 0 (by omega)
    have h' : x.toInt < 0 := Int32.lt_iff_toInt_lt.mp h
    refine tm_nextB (g := 0) (by omega) ?_ (Or.inl ⟨?_, rfl⟩) h0 t.2 (ek_v (P := fun r => post r (fh, fa, 2, 1, fs, fd, a1, a2, a3, a4, a5, a6, a7, a8, a9, a10, a11, a12, a13)) (t.1.trans (tm_nxv_c (fun m hm => ?_) 64)) H)
    · rw [Int32.lt_iff_toInt_lt, show (63 : Int32).toInt = 63 from by decide]
      omega
    · rw [Int32.le_iff_toInt_le, show (0 : Int32).toInt = 0 from by decide]
      omega
    · have e : x < nI m := by
        rw [Int32.lt_iff_toInt_lt, nI_toInt (by omega)]
        omega
      rw [decide_eq_true e, decide_eq_true (Nat.zero_le m)]
  · have h' : 63 ≤ x.toInt := by
      rw [Int32.le_iff_toInt_le, nI_toInt (by omega)] at h
      omega
    refine tm_nextA ?_ (ek_v (P := fun r => post r (fh, fa, 2, 1, fs, fd, a1, a2, a3, a4, a5, a6, a7, a8, a9, a10, a11, a12, a13)) ((tm_f_nx64 c hc).symm.trans (tm_nxv_c (fun m hm => ?_) 64)) H)
    · rw [Int32.lt_iff_toInt_lt, show (63 : Int32).toInt = 63 from by decide]
      omega
    · have e : ¬ x < nI m := by
        rw [Int32.lt_iff_toInt_lt, nI_toInt (by omega)]
        omega
      have e2 : ¬ 64 ≤ m := by omega
      rw [decide_eq_false e, decide_eq_false e2]
  · have t := tm_f_nx c hc (j + 1) (by omega)
    refine tm_nextB (g := j + 1) (by omega) (nI_lt (b := 63) hj (by omega)) (Or.inr ⟨nI_pos' (by omega), nI_1 j⟩) h0 t.2 (ek_v (P := fun r => post r (fh, fa, 2, 1, fs, fd, a1, a2, a3, a4, a5, a6, a7, a8, a9, a10, a11, a12, a13)) (t.1.trans (tm_nxv_c (fun m hm => ?_) 64)) H)
    by_cases e : j < m
    · have e1 : nI j < nI m := nI_lt e (by omega)
      have e2 : j + 1 ≤ m := e
      rw [decide_eq_true e1, decide_eq_true e2]
    · have e1 : ¬ nI j < nI m := nI_nlt (by omega) (by omega)
      have e2 : ¬ j + 1 ≤ m := by omega
      rw [decide_eq_false e1, decide_eq_false e2]
end
section
def tm_x6 (c : Nat) : Int32 := if c = 0 then 0 else 1
def tm_x8 (c : Nat) : Int32 := if c = 1 then 1 else 0
theorem tm_c3 {P : Nat → Prop} {c : Nat} (hc : c < 3) (h0 : P 0) (h1 : P 1) (h2 : P 2) : P c := by
  rcases c with _ | _ | _ | c
  · exact h0
  · exact h1
  · exact h2
  · omega
/-- which count the law wants -/
theorem tm_sel {A : Int32 → Prop} {c : Nat} (hc : c < 3) (H : A (nI (tm_ct c))) : (tm_x6 c = 1 → ((tm_x8 c = 0 → A 4) ∧ (¬ tm_x8 c = 0 → A 16))) ∧ (¬ tm_x6 c = 1 → A 16) := by
  revert H
  refine tm_c3 (P := fun c => A (nI (tm_ct c)) → (tm_x6 c = 1 → ((tm_x8 c = 0 → A 4) ∧ (¬ tm_x8 c = 0 → A 16))) ∧ (¬ tm_x6 c = 1 → A 16)) hc ?_ ?_ ?_
  · exact fun H => br_f (by decide) H
  · exact fun H => br_t (by decide) (br_f (by decide) H)
  · exact fun H => br_t (by decide) (br_t (by decide) H)
theorem tm_317a {post : Int32 → St0 → Prop} {mc ms kc ks : Nat} {fh fs fd : Int32} {a1 a2 a3 a4 a5 a7 : Nat → Int32} {a6 a8 a9 a10 a11 a12 a13 : Nat → Int64} {x6 x8 : Int32} {k w : Nat} (hkw : tm_kw k w) (H : post 1 ()) : wL_lawOf_317 post mc ms 0 x6 x8 0 0 kc ks fh 0 2 0 fs fd a1 a2 a3 a4 a5 a6 a7 a8 a9 a10 a11 a12 a13 :=
  br_t rfl (tm_models0 (m := 0) hkw (Or.inl rfl) (fun q b6 b8 b9 b10 b11 h0 hj => br_t rfl (br_t tm_f_64 H)))
theorem tm_317b {post : Int32 → St0 → Prop} {mc ms kc ks : Nat} {fh fa fe fs fd : Int32} {a1 a2 a3 a4 a5 a7 : Nat → Int32} {a6 a8 a9 a10 a11 a12 a13 : Nat → Int64} {x4 : Int32} {c : Nat} (hc : c < 3) (h4 : ¬ x4 = 0) (h0 : a6 0 = tm_ma c) (hj : ∀ j, 0 < j → j < 64 → a6 j = 0) (H : post 1 ()) : wL_lawOf_317 post mc ms x4 (tm_x6 c) (tm_x8 c) (-1) (-1) kc ks fh fa fe 1 fs fd a1 a2 a3 a4 a5 a6 a7 a8 a9 a10 a11 a12 a13 :=
  br_t rfl (tm_models1 h0 hj (br_f h4 (tm_sel (A := fun z => wL_lawOf_352 post mc ms z (tm_on 64 (tm_ma c) 0) kc ks) hc (br_t (tm_f_ct c hc) H))))
theorem tm_286 {post : Int32 → St0 → Prop} {mc ms kc ks : Nat} {fh fs fd : Int32} {a1 a2 a3 a4 a5 a7 : Nat → Int32} {a6 a8 a9 a10 a11 a12 a13 : Nat → Int64} {x4 z0 : Int32} {c k w : Nat} (hkw : tm_kw k w) (hc : c < 3) (h1 : a1 144 = nI k) (h2 : a2 144 = nI w) (h5 : a5 0 = 1) (h0 : a6 0 = tm_ma c) (hj : ∀ j, 0 < j → j < 64 → a6 j = 0) (H : post 1 ()) : wL_lawOf_286 post mc ms x4 (tm_x6 c) (tm_x8 c) z0 z0 kc ks fh 1 2 1 fs fd a1 a2 a3 a4 a5 a6 a7 a8 a9 a10 a11 a12 a13 := by
  refine br_t rfl (tm_smallest hkw h1 h2 h5 (fun q b8 b9 b10 b11 => br_t rfl ?_))
  by_cases h4 : x4 = 0
  · subst h4
    exact tm_retract (br_t rfl (tm_317a hkw H))
  · exact tm_retractN h4 (br_f h4 (tm_317b hc h4 h0 hj H))
/-- behind the law's own search -/
theorem tm_211x {post : Int32 → St0 → Prop} {mc ms kc ks : Nat} {fh fs fd : Int32} {a1 a2 a3 a4 a5 a7 : Nat → Int32} {a6 a8 a9 a10 a11 a12 a13 : Nat → Int64} {x3 x4 x11 : Int32} {c k w n : Nat} (hkw : tm_kw k w) (hc : c < 3) (h1 : a1 144 = nI k) (h2 : a2 144 = nI w) (h5 : a5 0 = 1) (h0 : a6 0 = tm_ma c) (hj : ∀ j, 0 < j → j < 64 → a6 j = 0) (hx : x11 = tm_nxv (fun m => decide (x3 < nI m)) (nI (tm_mu c)) 64) (H : post 1 ()) : wL_lawOf_211 post mc ms x3 x4 (tm_x6 c) (tm_x8 c) (nI (tm_mu c)) kc ks fh 1 2 1 fs fd a1 a2 a3 a4 a5 a6 a7 a8 a9 a10 a11 a12 a13 (n + 1) x11 (nI 0 + (-1)) := by
  refine br_t (by decide) (tm_next hc h0 (br_t hx.symm (tm_isModel hc h0 (br_t rfl ?_))))
  by_cases h4 : x4 = 0
  · subst h4
    exact tm_independent hkw h1 h2 h5 (fun q b8 b9 b10 b11 => br_t rfl (tm_286 hkw hc h1 h2 h5 h0 hj H))
  · exact tm_independentN h4 (br_f h4 (tm_286 hkw hc h1 h2 h5 h0 hj H))
theorem tm_nxs {x3 s u : Int32} {i : Nat} (hi : i + 1 ≤ 64) (h : s = tm_nxv (fun m => decide (x3 < nI m)) u (64 - (i + 1))) : tm_nxv (fun m => decide (x3 < nI m)) u (64 - i) = if decide (x3 < nI i) = true then (if nI i &&& u = u then nI i else s) else s := by
  rw [show 64 - i = (64 - (i + 1)) + 1 by omega]
  show (if decide (x3 < nI (63 - (64 - (i + 1)))) = true then (if nI (63 - (64 - (i + 1))) &&& u = u then nI (63 - (64 - (i + 1))) else tm_nxv (fun m => decide (x3 < nI m)) u (64 - (i + 1))) else tm_nxv (fun m => decide (x3 < nI m)) u (64 - (i + 1))) = _
  rw [← h, show 63 - (64 - (i + 1)) = i by omega]
theorem tm_nle {x y : Int32} (h : ¬ x ≤ y) : y < x := by
  rw [Int32.le_iff_toInt_le] at h
  rw [Int32.lt_iff_toInt_lt]
  omega
theorem tm_nlt {x y : Int32} (h : x ≤ y) : ¬ y < x := by
  rw [Int32.le_iff_toInt_le] at h
  rw [Int32.lt_iff_toInt_lt]
  omega
theorem tm_211 {post : Int32 → St0 → Prop} {mc ms kc ks : Nat} {fh fs fd : Int32} {a1 a2 a3 a4 a5 a7 : Nat → Int32} {a6 a8 a9 a10 a11 a12 a13 : Nat → Int64} {x3 x4 : Int32} {c k w : Nat} (hkw : tm_kw k w) (hc : c < 3) (h1 : a1 144 = nI k) (h2 : a2 144 = nI w) (h5 : a5 0 = 1) (h0 : a6 0 = tm_ma c) (hj : ∀ j, 0 < j → j < 64 → a6 j = 0) (H : post 1 ()) : ∃ n, wL_lawOf_211 post mc ms x3 x4 (tm_x6 c) (tm_x8 c) (nI (tm_mu c)) kc ks fh 1 2 1 fs fd a1 a2 a3 a4 a5 a6 a7 a8 a9 a10 a11 a12 a13 n (-2) 63 := by
  refine ⟨65, ek_v (P := fun x => wL_lawOf_211 post mc ms x3 x4 (tm_x6 c) (tm_x8 c) (nI (tm_mu c)) kc ks fh 1 2 1 fs fd a1 a2 a3 a4 a5 a6 a7 a8 a9 a10 a11 a12 a13 65 (-2) x) (show (63 : Int32) = nI 64 + (-1) from by decide) (pk_loopD (fun n i s => wL_lawOf_211 post mc ms x3 x4 (tm_x6 c) (tm_x8 c) (nI (tm_mu c)) kc ks fh 1 2 1 fs fd a1 a2 a3 a4 a5 a6 a7 a8 a9 a10 a11 a12 a13 n s (nI i + (-1))) (fun i s => i ≤ 64 ∧ s = tm_nxv (fun m => decide (x3 < nI m)) (nI (tm_mu c)) (64 - i)) ?_ ?_ 64 (-2) ⟨by omega, rfl⟩)⟩
  · intro n s h
    exact tm_211x hkw hc h1 h2 h5 h0 hj h.2 H
  · intro n i s h hw
    have hi : i + 1 ≤ 64 := h.1
    have E := tm_nxs hi h.2
    show wL_lawOf_211 post mc ms x3 x4 (tm_x6 c) (tm_x8 c) (nI (tm_mu c)) kc ks fh 1 2 1 fs fd a1 a2 a3 a4 a5 a6 a7 a8 a9 a10 a11 a12 a13 (n + 1) s (nI (i + 1) + (-1))
    rw [pk_m1]
    refine br_f (nI_pos (by omega)) (br_c (fun z => nm_e (hw s ⟨by omega, ?_⟩)) (fun z => br_c (fun y => nm_e (hw (nI i) ⟨by omega, ?_⟩)) (fun y => nm_e (hw s ⟨by omega, ?_⟩))))
    · rw [E, if_neg (by rw [decide_eq_false (tm_nlt z)]; decide)]
    · rw [E, if_pos (decide_eq_true (tm_nle z)), if_pos y]
    · rw [E, if_pos (decide_eq_true (tm_nle z)), if_neg y]
theorem tm_198 {post : Int32 → St0 → Prop} {mc ms kc ks : Nat} {fh fs fd : Int32} {a1 a2 a3 a4 a5 a7 : Nat → Int32} {a6 a8 a9 a10 a11 a12 a13 : Nat → Int64} {x3 x4 z0 z1 : Int32} {c k w : Nat} (hz : z1 = z0) (hkw : tm_kw k w) (hc : c < 3) (h1 : a1 144 = nI k) (h2 : a2 144 = nI w) (h5 : a5 0 = 1) (h0 : a6 0 = tm_ma c) (hj : ∀ j, 0 < j → j < 64 → a6 j = 0) (H : post 1 ()) : wL_lawOf_198 post mc ms x3 x4 (tm_x6 c) (tm_x8 c) (nI (tm_mu c)) z0 z1 kc ks fh 1 2 1 fs fd a1 a2 a3 a4 a5 a6 a7 a8 a9 a10 a11 a12 a13 :=
  br_t hz (tm_211 hkw hc h1 h2 h5 h0 hj H)
theorem tm_169 {post : Int32 → St0 → Prop} {mc ms kc ks : Nat} {fh fs fd : Int32} {a1 a2 a3 a4 a5 a7 : Nat → Int32} {a6 a8 a9 a10 a11 a12 a13 : Nat → Int64} {x2 x3 x4 x10 z0 z1 : Int32} {c k w : Nat} (hz : z1 = z0) (hx : ((x2 < 0 ∨ 6 ≤ x2) ∧ x10 = -1) ∨ (∃ b : Nat, b < 6 ∧ x2 = nI b ∧ x10 = (nI (tm_mu c) >>> (nI b &&& 31)) &&& 1)) (hkw : tm_kw k w) (hc : c < 3) (h1 : a1 144 = nI k) (h2 : a2 144 = nI w) (h5 : a5 0 = 1) (h0 : a6 0 = tm_ma c) (hj : ∀ j, 0 < j → j < 64 → a6 j = 0) (H : post 1 ()) : wL_lawOf_169 post mc ms x2 x3 x4 (tm_x6 c) (tm_x8 c) (nI (tm_mu c)) x10 z0 z1 kc ks fh 1 2 1 fs fd a1 a2 a3 a4 a5 a6 a7 a8 a9 a10 a11 a12 a13 := by
  refine br_t hz ?_
  rcases hx with ⟨hx, rfl⟩ | ⟨b, hb, rfl, e⟩
  · exact tm_forcedN hx (br_f (by decide) (tm_198 rfl hkw hc h1 h2 h5 h0 hj H))
  · have t := tm_f_fo c hc b hb
    rw [← e] at t
    refine tm_forced hb h0 hj (br_t t.2 (br_c (fun y => tm_198 ?_ hkw hc h1 h2 h5 h0 hj H) (fun y => tm_198 ?_ hkw hc h1 h2 h5 h0 hj H)))
    · rw [t.1, if_pos y]
    · rw [t.1, if_neg y]
theorem tm_145 {post : Int32 → St0 → Prop} {mc ms kc ks : Nat} {fh fs fd : Int32} {a1 a2 a3 a4 a5 a7 : Nat → Int32} {a6 a8 a9 a10 a11 a12 a13 : Nat → Int64} {x2 x3 x4 z0 : Int32} {c k w : Nat} (hx : ((x2 < 0 ∨ 6 ≤ x2) ∧ z0 = -1) ∨ (∃ b : Nat, b < 6 ∧ x2 = nI b ∧ z0 = (nI (tm_mu c) >>> (nI b &&& 31)) &&& 1)) (hkw : tm_kw k w) (hc : c < 3) (hM : tm_M 1 2 k w = tm_ma c) (h1 : a1 144 = nI k) (h2 : a2 144 = nI w) (h5 : a5 0 = 1) (H : post 1 ()) : wL_lawOf_145 post mc ms x2 x3 x4 (tm_x6 c) (tm_x8 c) (nI (tm_mu c)) z0 kc ks fh 1 2 0 fs fd a1 a2 a3 a4 a5 a6 a7 a8 a9 a10 a11 a12 a13 := by
  refine tm_models0 (m := 1) hkw (Or.inr ⟨rfl, h1, h2, h5⟩) (fun q b6 b8 b9 b10 b11 h0 hj => ?_)
  rw [hM] at h0 ⊢
  exact tm_sel (A := fun z => wL_lawOf_169 post mc ms x2 x3 x4 (tm_x6 c) (tm_x8 c) (nI (tm_mu c)) z0 z (tm_on 64 (tm_ma c) 0) kc ks fh 1 2 1 (nI 2) q a1 a2 a3 a4 a5 b6 a7 b8 b9 b10 b11 a12 a13) hc (tm_169 (tm_f_ct c hc) hx hkw hc h1 h2 h5 h0 hj H)
theorem tm_123 {post : Int32 → St0 → Prop} {mc ms kc ks : Nat} {fh fs fd : Int32} {a1 a2 a3 a4 a5 a7 : Nat → Int32} {a6 a8 a9 a10 a11 a12 a13 : Nat → Int64} {x2 x3 x4 : Int32} {c k w : Nat} (hkw : tm_kw k w) (hc : c < 3) (hM : tm_M 1 2 k w = tm_ma c) (h1 : a1 144 = nI k) (h2 : a2 144 = nI w) (h5 : a5 0 = 1) (H : post 1 ()) : wL_lawOf_123 post mc ms x2 x3 x4 (tm_x6 c) (tm_x8 c) (nI (tm_mu c)) kc ks fh 1 2 0 fs fd a1 a2 a3 a4 a5 a6 a7 a8 a9 a10 a11 a12 a13 := by
  refine br_c (fun z => tm_145 (Or.inl ⟨Or.inl z, rfl⟩) hkw hc hM h1 h2 h5 H) (fun z => br_c (fun y => tm_145 (Or.inl ⟨Or.inr y, rfl⟩) hkw hc hM h1 h2 h5 H) (fun y => ?_))
  rcases pk_ix x2 (n := 6) (by omega) with g | g | ⟨b, hb, rfl⟩
  · exact absurd g z
  · exact absurd g y
  · exact tm_145 (Or.inr ⟨b, hb, rfl, rfl⟩) hkw hc hM h1 h2 h5 H
theorem tm_100 {post : Int32 → St0 → Prop} {mc ms kc ks : Nat} {fh fs fd : Int32} {a1 a2 a3 a4 a5 a7 : Nat → Int32} {a6 a8 a9 a10 a11 a12 a13 : Nat → Int64} {x2 x3 x4 : Int32} {c k w : Nat} (hkw : tm_kw k w) (hc : c < 3) (hM : tm_M 1 2 k w = tm_ma c) (h1 : a1 144 = nI k) (h2 : a2 144 = nI w) (h5 : a5 0 = 1) (H : post 1 ()) : wL_lawOf_100 post mc ms x2 x3 x4 (tm_x6 c) (tm_x8 c) kc ks fh 1 2 0 fs fd a1 a2 a3 a4 a5 a6 a7 a8 a9 a10 a11 a12 a13 := by
  have key := tm_123 (post := post) (mc := mc) (ms := ms) (kc := kc) (ks := ks) (fh := fh) (fs := fs) (fd := fd) (a3 := a3) (a4 := a4) (a6 := a6) (a7 := a7) (a8 := a8) (a9 := a9) (a10 := a10) (a11 := a11) (a12 := a12) (a13 := a13) (x2 := x2) (x3 := x3) (x4 := x4) hkw hc hM h1 h2 h5 H
  revert key
  refine tm_c3 (P := fun c => wL_lawOf_123 post mc ms x2 x3 x4 (tm_x6 c) (tm_x8 c) (nI (tm_mu c)) kc ks fh 1 2 0 fs fd a1 a2 a3 a4 a5 a6 a7 a8 a9 a10 a11 a12 a13 → wL_lawOf_100 post mc ms x2 x3 x4 (tm_x6 c) (tm_x8 c) kc ks fh 1 2 0 fs fd a1 a2 a3 a4 a5 a6 a7 a8 a9 a10 a11 a12 a13) hc ?_ ?_ ?_
  · exact fun key => br_t (by decide) key
  · exact fun key => br_f (by decide) (br_f (by decide) key)
  · exact fun key => br_f (by decide) (br_t (by decide) key)
theorem tm_35 {post : Int32 → St0 → Prop} {mc ms kc ks : Nat} {fs fd : Int32} {a1 a2 a3 a4 a5 a7 : Nat → Int32} {a6 a8 a9 a10 a11 a12 a13 : Nat → Int64} {x2 x3 x4 : Int32} {k w : Nat} (hkw : tm_kw k w) (H : post 1 ()) : wL_lawOf_35 post mc ms x2 x3 x4 (nI k) (nI w) kc ks 0 0 2 0 fs fd a1 a2 a3 a4 a5 a6 a7 a8 a9 a10 a11 a12 a13 := by
  have hk := tm_kw_k hkw
  have hw := tm_kw_w hkw
  have hM := tm_f_M k hk w hw (tm_kw_0 hkw)
  unfold wL_lawOf_35
  refine tm_token hkw (fun b1 b2 b3 b4 e1 e2 e3 e4 => br_t rfl (tm_follows hkw e1 e2 e3 e4 (fun b6 b8 b9 b10 b11 => br_t rfl (tm_axi1 e3 e4 (fun c1 c2 c5 g1 g2 g5 => br_t rfl (tm_axi0 (br_t rfl ?_)))))))
  have key := tm_100 (post := post) (mc := mc) (ms := ms) (kc := kc) (ks := ks) (fh := 0) (fs := nI 2) (fd := 1) (a3 := b3) (a4 := b4) (a6 := b6) (a7 := a7) (a8 := b8) (a9 := b9) (a10 := b10) (a11 := b11) (a12 := a12) (a13 := a13) (x2 := x2) (x3 := x3) (x4 := x4) hkw (tm_cs3 k w) hM (g1.trans e1) (g2.trans e2) g5 H
  rcases Nat.lt_or_ge k 1 with c | c
  · have k0 : k = 0 := by omega
    subst k0
    rw [show tm_cs 0 w = 0 from rfl] at key
    exact br_f (by decide) key
  · have k1 : k = 1 := by omega
    subst k1
    refine br_t rfl ⟨by decide, by decide, pk_eq (w / 3) (w % 3) (fun y => ?_) (fun y => ?_) (tm_div3 (by omega)) (tm_rem3 (by omega))⟩
    · have e : tm_cs 1 w = 1 := by
        unfold tm_cs
        rw [if_neg (by omega), if_pos y]
      rw [e] at key
      exact key
    · have e : tm_cs 1 w = 2 := by
        unfold tm_cs
        rw [if_neg (by omega), if_neg y]
      rw [e] at key
      exact key
theorem tm_lawOf {post : Int32 → St0 → Prop} {p0 p1 p2 p3 p4 : Int32} (H : post 1 ()) : wpL_lawOf post 860 13760 () p0 p1 p2 p3 p4 := by
  unfold wpL_lawOf
  refine ⟨by omega, by omega, 13, 1129, by omega, by omega, tm_init (by omega) (by omega) (fun b => ?_)⟩
  obtain ⟨j, hj, ej⟩ := pk_andE p1 (m := 1) 1 (by decide)
  refine nm_r ej ?_
  obtain ⟨a, ha, ea⟩ := pk_andE p0 (m := 7) 3 (by decide)
  obtain ⟨d, hd, ed⟩ := pk_andE p0 (m := 15) 4 (by decide)
  refine pk_eq j 0 (fun z => ⟨by decide, ?_⟩) (fun z => ⟨by decide, ?_⟩)
  · rw [ea, tm_rem3 (by omega)]
    exact tm_35 (Or.inl ⟨z, by omega⟩) H
  · rw [ed, show nI d - nI d / 9 * 9 = nI (d % 9) from pk_rem (d := 9) (by omega) (by omega) (by omega)]
    exact tm_35 (Or.inr ⟨by omega, by omega⟩) H
theorem tm_cell {post : Int32 → Prop} {L : Nat} {xs : Nat → Int32} {i : Nat} (hL : L ≤ 5) (hi : i < 5) (H : ∀ r, post r) : wpL_cellAt post L xs () (nI i) :=
  pk_le L i (fun _ => H _) (fun z => ⟨pk_in i L z, H _⟩)
theorem i_vc (xs : Nat → Int32) (L : Nat) (hL : L ≤ 5) : wpL_law (fun r => r = 1) L xs := by
  unfold wpL_law
  exact tm_cell (i := 0) hL (by omega) (fun r1 => tm_cell (i := 1) hL (by omega) (fun r2 => tm_cell (i := 2) hL (by omega) (fun r3 => tm_cell (i := 3) hL (by omega) (fun r4 => tm_cell (i := 4) hL (by omega) (fun r5 => ⟨860, 13760, by omega, by omega, tm_lawOf rfl⟩)))))
end
