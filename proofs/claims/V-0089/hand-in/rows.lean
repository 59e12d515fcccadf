section
/-! numbers (rows of kit/rows: pk_*), stores -/
theorem pk_us {f : Nat → Int32} {k : Nat} {x : Int32} : upd f k x k = x := if_pos rfl
theorem pk_un {f : Nat → Int32} {k j : Nat} {x : Int32} (h : j ≠ k) : upd f k x j = f j := if_neg h
theorem pk_sub {a b : Nat} (h : b ≤ a) : nI a - nI b = nI (a - b) := by
  obtain ⟨c, rfl⟩ : ∃ c, a = c + b := ⟨a - b, by omega⟩
  rw [← nI_add, Int32.add_sub_cancel, Nat.add_sub_cancel]
theorem pk_mul (a b : Nat) : nI a * nI b = nI (a * b) := (Int32.ofNat_mul a b).symm
theorem pk_sub_toInt {a b : Nat} (ha : a < 2 ^ 30) (hb : b < 2 ^ 30) : (nI a - nI b).toInt = (a : Int) - b := by
  rw [Int32.toInt_sub, nI_toInt (by omega), nI_toInt (by omega)]
  exact Int.bmod_eq_of_le (by omega) (by omega)
theorem pk_sneg {a b : Nat} (hb : b < 2 ^ 30) (h : a < b) : nI a - nI b < 0 := by
  rw [Int32.lt_iff_toInt_lt, pk_sub_toInt (by omega) hb, show (0 : Int32).toInt = 0 from by decide]
  omega
theorem pk_ix (x : Int32) {n : Nat} (hn : n < 2 ^ 31) : x < 0 ∨ nI n ≤ x ∨ ∃ j : Nat, j < n ∧ x = nI j := by
  by_cases h : x < 0
  · exact Or.inl h
  · obtain ⟨j, hj, rfl⟩ := nI_of h
    by_cases h2 : j < n
    · exact Or.inr (Or.inr ⟨j, h2, rfl⟩)
    · exact Or.inr (Or.inl (nI_le (by omega) hj))
theorem pk_le {x y : Int32} {A B : Prop} (a b : Nat) (f : a ≤ b → A) (g : b < a → B) (hx : x = nI a := by rfl) (hy : y = nI b := by rfl) (ha : a < 2 ^ 31 := by omega) (hb : b < 2 ^ 31 := by omega) : (x ≤ y → A) ∧ (¬ x ≤ y → B) := by
  subst hx hy
  rw [nI_leI ha hb]
  exact ⟨f, fun z => g (by omega)⟩
theorem pk_lt {x y : Int32} {A B : Prop} (a b : Nat) (f : a < b → A) (g : b ≤ a → B) (hx : x = nI a := by rfl) (hy : y = nI b := by rfl) (ha : a < 2 ^ 31 := by omega) (hb : b < 2 ^ 31 := by omega) : (x < y → A) ∧ (¬ x < y → B) := by
  subst hx hy
  rw [nI_ltI ha hb]
  exact ⟨f, fun z => g (by omega)⟩
theorem pk_eq {x y : Int32} {A B : Prop} (a b : Nat) (f : a = b → A) (g : a ≠ b → B) (hx : x = nI a := by rfl) (hy : y = nI b := by rfl) (ha : a < 2 ^ 31 := by omega) (hb : b < 2 ^ 31 := by omega) : (x = y → A) ∧ (¬ x = y → B) := by
  subst hx hy
  rw [nI_eq ha hb]
  exact ⟨f, g⟩
theorem pk_in {x : Int32} (n N : Nat) (h : n < N) (hx : x = nI n := by rfl) (hN : N < 2 ^ 31 := by omega) : vp_in x N := by
  subst hx
  exact vp_in_nI h hN
theorem pk_cl {x : Int32} (n : Nat) (hx : x = nI n := by rfl) (h : n < 2 ^ 31 := by omega) : x.toNatClampNeg = n := by
  subst hx
  exact nI_clamp h
theorem pk_shr (a s : Int32) (k : Nat) (hs : (s.toBitVec.smod 32).toNat = k) : (a >>> s).toInt = a.toInt >>> k := by
  show (a.toBitVec.sshiftRight (s.toBitVec.smod 32).toNat).toInt = _
  rw [hs, BitVec.toInt_sshiftRight]
  rfl
theorem pk_shrN {n : Nat} (h : n < 2 ^ 31) (s : Int32) (k : Nat) (hs : (s.toBitVec.smod 32).toNat = k) : nI n >>> s = nI (n / 2 ^ k) := by
  apply Int32.toInt_inj.mp
  have h2 : n / 2 ^ k ≤ n := Nat.div_le_self _ _
  rw [pk_shr _ _ k hs, nI_toInt h, nI_toInt (by omega), Int.shiftRight_eq_div_pow]
  rfl

/-! own: stores by naturals -/
def na_A (f : Nat → Nat) : Nat → Int32 := fun i => nI (f i)
def na_u (f : Nat → Nat) (k v : Nat) : Nat → Nat := fun j => if j = k then v else f j
theorem na_us {f : Nat → Nat} {k v : Nat} : na_u f k v k = v := if_pos rfl
theorem na_un {f : Nat → Nat} {k v j : Nat} (h : j ≠ k) : na_u f k v j = f j := if_neg h
theorem na_uu {f : Nat → Nat} {k v w : Nat} : na_u (na_u f k v) k w = na_u f k w := by
  funext j
  by_cases h : j = k
  · subst h; rw [na_us, na_us]
  · rw [na_un h, na_un h, na_un h]
theorem na_ui {f : Nat → Nat} {k v : Nat} (h : f k = v) : na_u f k v = f := by
  funext j
  by_cases e : j = k
  · subst e; rw [na_us, h]
  · rw [na_un e]
theorem na_ue {f : Nat → Nat} {k v j : Nat} : na_u f k v j = if j = k then v else f j := rfl
theorem na_rd {f : Nat → Nat} {x : Nat} (h : x < 2 ^ 31) : na_A f (nI x).toNatClampNeg = nI (f x) := by
  rw [nI_clamp h]; rfl
theorem na_wr {f : Nat → Nat} {x v : Nat} (h : x < 2 ^ 31) : upd (na_A f) (nI x).toNatClampNeg (nI v) = na_A (na_u f x v) := by
  rw [nI_clamp h]
  funext j
  show (if j = x then nI v else nI (f j)) = nI (if j = x then v else f j)
  by_cases e : j = x
  · rw [if_pos e, if_pos e]
  · rw [if_neg e, if_neg e]
theorem na_rw {a : Nat → Int32} {x : Nat} (h : x < 2 ^ 31) : a (nI x).toNatClampNeg = a x := by rw [nI_clamp h]
theorem na_ww {a : Nat → Int32} {x : Nat} {v : Int32} (h : x < 2 ^ 31) : upd a (nI x).toNatClampNeg v = upd a x v := by rw [nI_clamp h]
theorem na_0 : na_A (fun _ => 0) = fun _ => (0 : Int32) := rfl
theorem na_s2 {n : Nat} (h : n < 2 ^ 31) : nI n >>> ((2 : Int32) &&& 31) = nI (n / 4) := pk_shrN h _ 2 (by decide)
theorem na_s4 {n : Nat} (h : n < 2 ^ 31) : nI n >>> ((4 : Int32) &&& 31) = nI (n / 16) := pk_shrN h _ 4 (by decide)
theorem na_m4 (a b : Nat) : nI a * 4 + nI b = nI (4 * a + b) := by
  rw [show nI a * 4 = nI (a * 4) from pk_mul a 4, nI_add, Nat.mul_comm]
theorem na_m3 (a b : Nat) : nI a * 3 + nI b = nI (3 * a + b) := by
  rw [show nI a * 3 = nI (a * 3) from pk_mul a 3, nI_add, Nat.mul_comm]
theorem na_m16 (a : Nat) : nI a * 16 = nI (16 * a) := by
  rw [show nI a * 16 = nI (a * 16) from pk_mul a 16, Nat.mul_comm]
theorem na_e0 {a : Nat} (h : a < 2 ^ 31) : nI a = 0 ↔ a = 0 := by
  rw [← nI_0, nI_eq h (by omega)]
theorem na_eq {x y : Int32} {A B : Prop} (a b : Nat) (f : a = b → A) (g : a ≠ b → B) (hx : x = nI a) (hy : y = nI b) (ha : a < 2 ^ 31) (hb : b < 2 ^ 31) : (x = y → A) ∧ (¬ x = y → B) := pk_eq a b f g hx hy ha hb
/-! lists: a count below n -/
theorem na_len {l : List Nat} {n : Nat} (hd : l.Nodup) (h : ∀ x, x ∈ l → x < n) : l.length ≤ n := by
  have := List.Nodup.length_le_of_subset hd (l₂ := List.range n) (fun x hx => List.mem_range.mpr (h x hx))
  rw [List.length_range] at this
  exact this
theorem na_hda (a b : List Nat) (e : Nat) : (a ++ b).headD e = a.headD (b.headD e) := by
  cases a <;> rfl
theorem na_hdm {l : List Nat} (h : l ≠ []) (e : Nat) : l.headD e ∈ l := by
  cases l with
  | nil => exact absurd rfl h
  | cons x xs => exact List.mem_cons_self
end
section
/-! remembered sets: doubly linked lists of cells -/
section REM
def rl_sg (rn rp : Nat → Nat) : Nat → List Nat → Nat → Prop
  | _, [], _ => True
  | p, x :: xs, e => rp x = p ∧ rn x = xs.headD e ∧ rl_sg rn rp x xs e
def rl_la : Nat → List Nat → Nat
  | p, [] => p
  | _, x :: xs => rl_la x xs
theorem rl_app {rn rp : Nat → Nat} {b : List Nat} {e : Nat} : ∀ (a : List Nat) (p : Nat), rl_sg rn rp p (a ++ b) e ↔ rl_sg rn rp p a (b.headD e) ∧ rl_sg rn rp (rl_la p a) b e := by
  intro a
  induction a with
  | nil => intro p; exact ⟨fun h => ⟨trivial, h⟩, fun h => h.2⟩
  | cons x xs ih =>
    intro p
    constructor
    · rintro ⟨h1, h2, h3⟩
      obtain ⟨h4, h5⟩ := (ih x).mp h3
      exact ⟨⟨h1, h2.trans (na_hda xs b e), h4⟩, h5⟩
    · rintro ⟨⟨h1, h2, h4⟩, h5⟩
      exact ⟨h1, h2.trans (na_hda xs b e).symm, (ih x).mpr ⟨h4, h5⟩⟩
theorem rl_lam : ∀ (l : List Nat) (p : Nat), l ≠ [] → rl_la p l ∈ l := by
  intro l
  induction l with
  | nil => intro p h; exact absurd rfl h
  | cons x xs ih =>
    intro p _
    cases xs with
    | nil => exact List.mem_cons_self
    | cons y ys => exact List.mem_cons_of_mem _ (ih x (fun z => nomatch z))
theorem rl_fr {rn rp rn' rp' : Nat → Nat} {e : Nat} : ∀ (l : List Nat) (p : Nat), (∀ y, y ∈ l → rn' y = rn y ∧ rp' y = rp y) → rl_sg rn rp p l e → rl_sg rn' rp' p l e := by
  intro l
  induction l with
  | nil => intro p _ _; exact trivial
  | cons x xs ih =>
    intro p h ⟨h1, h2, h3⟩
    have hx := h x List.mem_cons_self
    exact ⟨hx.2.trans h1, hx.1.trans h2, ih x (fun y hy => h y (List.mem_cons_of_mem _ hy)) h3⟩
theorem rl_end {rn rp : Nat → Nat} {e e' : Nat} : ∀ (l : List Nat) (p : Nat), l ≠ [] → l.Nodup → rl_sg rn rp p l e → rl_sg (na_u rn (rl_la p l) e') rp p l e' := by
  intro l
  induction l with
  | nil => intro p h; exact absurd rfl h
  | cons x xs ih =>
    intro p _ hd ⟨h1, h2, h3⟩
    have hd' := List.nodup_cons.mp hd
    cases xs with
    | nil => exact ⟨h1, na_us, trivial⟩
    | cons y ys =>
      have hne : x ≠ rl_la x (y :: ys) := fun z => hd'.1 (z ▸ rl_lam (y :: ys) x (fun z => nomatch z))
      refine ⟨h1, ?_, ih x (fun z => nomatch z) hd'.2 h3⟩
      show na_u rn (rl_la x (y :: ys)) e' x = y
      rw [na_un hne, h2]
      rfl
theorem rl_st {rn rp : Nat → Nat} {e p p' y : Nat} {ys : List Nat} (h : rl_sg rn rp p (y :: ys) e) (hn : y ∉ ys) : rl_sg rn (na_u rp y p') p' (y :: ys) e :=
  ⟨na_us, h.2.1, rl_fr ys y (fun z hz => ⟨rfl, na_un (fun q => hn (q ▸ hz))⟩) h.2.2⟩
def rl_RI (he : Nat → Nat) (R : Nat → List Nat) (rn rp rh : Nat → Nat) : Prop :=
  (∀ x, x < 16 → he x = 0) ∧ (∀ x, he x < 112) ∧ (∀ c, c < 28 → rh c = (R c).headD 0 ∧ rl_sg rn rp 0 (R c) 0 ∧ (R c).Nodup) ∧
  (∀ c x, c < 28 → (x ∈ R c ↔ x < 448 ∧ he x ≠ 0 ∧ he x / 4 = c ∧ x / 16 ≠ c))
def rl_F (R : Nat → List Nat) (x : Nat) : Nat → List Nat := fun c => (R c).filter (fun y => y != x)
def rl_I (R : Nat → List Nat) (x t : Nat) : Nat → List Nat := fun c => if t ≠ 0 ∧ t / 4 ≠ x / 16 ∧ c = t / 4 then x :: R c else R c
def rl_S (R : Nat → List Nat) (x t : Nat) : Nat → List Nat := rl_I (rl_F R x) x t
theorem rl_fid {l : List Nat} {x : Nat} (h : x ∉ l) : l.filter (fun y => y != x) = l := by
  refine List.filter_eq_self.mpr (fun a ha => ?_)
  have : a ≠ x := fun e => h (e ▸ ha)
  exact bne_iff_ne.mpr this
theorem rl_fmem {l : List Nat} {x y : Nat} : y ∈ l.filter (fun y => y != x) ↔ y ∈ l ∧ y ≠ x := by
  rw [List.mem_filter]
  exact and_congr Iff.rfl bne_iff_ne
theorem rl_fsp {pre post : List Nat} {x : Nat} (h : (pre ++ x :: post).Nodup) : (pre ++ x :: post).filter (fun y => y != x) = pre ++ post := by
  have h' := List.nodup_append.mp h
  have h1 : x ∉ pre := fun z => h'.2.2 x z x List.mem_cons_self rfl
  have h2 : x ∉ post := (List.nodup_cons.mp h'.2.1).1
  have e : (x != x) = false := by simp
  rw [List.filter_append, List.filter_cons, rl_fid h1, rl_fid h2, e]
  rfl
/-- a cell leaves its list -/
theorem rl_del {he rn rp rh rn' rp' rh' : Nat → Nat} {R : Nat → List Nat} {x : Nat} {pre post : List Nat} (h : rl_RI he R rn rp rh) (hx : x < 448) (h0 : he x ≠ 0) (e : R (he x / 4) = pre ++ x :: post)
    (h1 : ∀ y, y ≠ x → (pre = [] ∨ y ≠ rl_la 0 pre) → rn' y = rn y) (h2 : pre ≠ [] → rn' (rl_la 0 pre) = post.headD 0)
    (h3 : ∀ y, y ≠ x → (post = [] ∨ y ≠ post.headD 0) → rp' y = rp y) (h4 : post ≠ [] → rp' (post.headD 0) = rl_la 0 pre)
    (h5 : ∀ d, (d ≠ he x / 4 ∨ pre ≠ []) → rh' d = rh d) (h6 : pre = [] → rh' (he x / 4) = post.headD 0) : rl_RI (na_u he x 0) (rl_F R x) rn' rp' rh' := by
  obtain ⟨a1, a2, a3, a4⟩ := h
  have hc : he x / 4 < 28 := by have := a2 x; omega
  obtain ⟨b1, b2, b3⟩ := a3 _ hc
  have hp : ∀ y, y ∈ pre → y ∈ R (he x / 4) := fun y hy => by rw [e]; exact List.mem_append_left _ hy
  have hq : ∀ y, y ∈ post → y ∈ R (he x / 4) := fun y hy => by rw [e]; exact List.mem_append_right _ (List.mem_cons_of_mem _ hy)
  rw [e] at b1 b2 b3
  have b3' := List.nodup_append.mp b3
  have n1 : x ∉ pre := fun z => b3'.2.2 x z x List.mem_cons_self rfl
  have n2 : x ∉ post := (List.nodup_cons.mp b3'.2.1).1
  have n3 : ∀ y, y ∈ pre → y ∉ post := fun y hy hz => b3'.2.2 y hy y (List.mem_cons_of_mem _ hz) rfl
  obtain ⟨s1, s2⟩ := (rl_app pre 0).mp b2
  obtain ⟨s3, s4, s5⟩ := s2
  refine ⟨fun y hy => ?_, fun y => ?_, fun d hd => ?_, fun d y hd => ?_⟩
  · by_cases z : y = x
    · subst z; exact na_us
    · rw [na_un z]; exact a1 y hy
  · by_cases z : y = x
    · subst z; rw [na_us]; omega
    · rw [na_un z]; exact a2 y
  · by_cases z : d = he x / 4
    · subst z
      have ef : rl_F R x (he x / 4) = pre ++ post := by
        show (R (he x / 4)).filter _ = _
        rw [e, rl_fsp b3]
      rw [ef]
      refine ⟨?_, (rl_app pre 0).mpr ⟨?_, ?_⟩, ?_⟩
      · cases pre with
        | nil => exact h6 rfl
        | cons w ws => rw [h5 _ (Or.inr (fun z => nomatch z)), b1]; rfl
      · cases pre with
        | nil => exact trivial
        | cons w ws =>
          have hne : w :: ws ≠ [] := fun z => nomatch z
          refine rl_fr _ _ (fun y hy => ?_) (rl_end (e' := post.headD 0) _ 0 hne b3'.1 s1)
          have yx : y ≠ x := fun q => n1 (q ▸ hy)
          constructor
          · by_cases q : y = rl_la 0 (w :: ws)
            · rw [q, na_us]; exact h2 hne
            · rw [na_un q]; exact h1 y yx (Or.inr q)
          · refine h3 y yx ?_
            by_cases q : post = []
            · exact Or.inl q
            · exact Or.inr (fun r => n3 y hy (r ▸ na_hdm q 0))
      · cases post with
        | nil => exact trivial
        | cons w ws =>
          have hne : w :: ws ≠ [] := fun z => nomatch z
          have hw : w ∉ ws := (List.nodup_cons.mp (List.nodup_cons.mp b3'.2.1).2).1
          refine rl_fr _ _ (fun y hy => ?_) (rl_st (p' := rl_la 0 pre) s5 hw)
          have yx : y ≠ x := fun q => n2 (q ▸ hy)
          constructor
          · refine h1 y yx ?_
            by_cases q : pre = []
            · exact Or.inl q
            · exact Or.inr (fun r => n3 _ (rl_lam pre 0 q) (r ▸ hy))
          · by_cases q : y = w
            · rw [q, na_us]; exact h4 hne
            · rw [na_un q]; exact h3 y yx (Or.inr q)
      · exact List.nodup_append.mpr ⟨b3'.1, (List.nodup_cons.mp b3'.2.1).2, fun y hy w hw q => n3 y hy (q ▸ hw)⟩
    · obtain ⟨c1, c2, c3⟩ := a3 d hd
      have nx : x ∉ R d := fun q => z (((a4 d x hd).mp q).2.2.1).symm
      have other : ∀ y, y ∈ R d → y ∉ R (he x / 4) := fun y hy hz => z ((((a4 d y hd).mp hy).2.2.1).symm.trans ((a4 _ y hc).mp hz).2.2.1)
      have ef : rl_F R x d = R d := rl_fid nx
      rw [ef]
      refine ⟨(h5 d (Or.inl z)).trans c1, rl_fr _ _ (fun y hy => ⟨h1 y (fun q => nx (q ▸ hy)) ?_, h3 y (fun q => nx (q ▸ hy)) ?_⟩) c2, c3⟩
      · by_cases q : pre = []
        · exact Or.inl q
        · exact Or.inr (fun r => other y hy (r ▸ hp _ (rl_lam pre 0 q)))
      · by_cases q : post = []
        · exact Or.inl q
        · exact Or.inr (fun r => other y hy (r ▸ hq _ (na_hdm q 0)))
  · show y ∈ (R d).filter _ ↔ _
    rw [rl_fmem, a4 d y hd]
    by_cases z : y = x
    · subst z
      rw [na_us]
      exact ⟨fun q => absurd rfl q.2, fun q => absurd rfl q.2.1⟩
    · rw [na_un z]
      exact ⟨fun q => q.1, fun q => ⟨q, z⟩⟩
/-- a cell that holds nothing, or an object of its own car, is in no list -/
theorem rl_del0 {he rn rp rh : Nat → Nat} {R : Nat → List Nat} {x : Nat} (h : rl_RI he R rn rp rh) (h0 : he x = 0 ∨ he x / 4 = x / 16) : rl_RI (na_u he x 0) (rl_F R x) rn rp rh := by
  obtain ⟨a1, a2, a3, a4⟩ := h
  have nx : ∀ d, d < 28 → x ∉ R d := fun d hd q => by
    obtain ⟨q1, q2, q3, q4⟩ := (a4 d x hd).mp q
    rcases h0 with h0 | h0
    · exact q2 h0
    · exact q4 (h0 ▸ q3)
  refine ⟨fun y hy => ?_, fun y => ?_, fun d hd => ?_, fun d y hd => ?_⟩
  · by_cases z : y = x
    · subst z; exact na_us
    · rw [na_un z]; exact a1 y hy
  · by_cases z : y = x
    · subst z; rw [na_us]; omega
    · rw [na_un z]; exact a2 y
  · have ef : rl_F R x d = R d := rl_fid (nx d hd)
    rw [ef]
    exact a3 d hd
  · have ef : rl_F R x d = R d := rl_fid (nx d hd)
    rw [ef]
    by_cases z : y = x
    · subst z
      rw [na_us]
      exact ⟨fun q => absurd q (nx d hd), fun q => absurd rfl q.2.1⟩
    · rw [na_un z]
      exact a4 d y hd
theorem rl_insn {R : Nat → List Nat} {x t : Nat} (h : t = 0 ∨ t / 4 = x / 16) : rl_I R x t = R := by
  funext c
  exact if_neg (fun q => h.elim q.1 q.2.1)
/-- a cell takes nothing, or an object of its own car -/
theorem rl_ins0 {he rn rp rh : Nat → Nat} {R : Nat → List Nat} {x t : Nat} (h : rl_RI (na_u he x 0) R rn rp rh) (hx : 16 ≤ x) (ht : t < 112) (h0 : t = 0 ∨ t / 4 = x / 16) : rl_RI (na_u he x t) (rl_I R x t) rn rp rh := by
  obtain ⟨a1, a2, a3, a4⟩ := h
  rw [rl_insn h0]
  refine ⟨fun y hy => ?_, fun y => ?_, a3, fun d y hd => ?_⟩
  · have := a1 y hy
    have z : y ≠ x := by omega
    rw [na_un z] at this ⊢
    exact this
  · by_cases z : y = x
    · subst z; rw [na_us]; exact ht
    · have := a2 y
      rw [na_un z] at this ⊢
      exact this
  · by_cases z : y = x
    · subst z
      have := a4 d y hd
      rw [na_us] at this ⊢
      rw [this]
      refine ⟨fun q => absurd rfl q.2.1, fun q => ?_⟩
      rcases h0 with h0 | h0
      · exact absurd h0 q.2.1
      · exact absurd (h0 ▸ q.2.2.1) q.2.2.2
    · have := a4 d y hd
      rw [na_un z] at this ⊢
      exact this
/-- a cell enters a list at its head -/
theorem rl_ins {he rn rp rh rp' : Nat → Nat} {R : Nat → List Nat} {x t : Nat} (h : rl_RI (na_u he x 0) R rn rp rh) (hx : 16 ≤ x) (hx' : x < 448) (ht : t < 112) (h0 : t ≠ 0) (hc : t / 4 ≠ x / 16)
    (h1 : rp' x = 0) (h2 : ∀ y, y ≠ x → (R (t / 4) = [] ∨ y ≠ (R (t / 4)).headD 0) → rp' y = rp y) (h3 : R (t / 4) ≠ [] → rp' ((R (t / 4)).headD 0) = x) :
    rl_RI (na_u he x t) (rl_I R x t) (na_u rn x (rh (t / 4))) rp' (na_u rh (t / 4) x) := by
  obtain ⟨a1, a2, a3, a4⟩ := h
  have hd4 : t / 4 < 28 := by omega
  have nx : ∀ d, d < 28 → x ∉ R d := fun d hd q => by
    have := ((a4 d x hd).mp q).2.1
    rw [na_us] at this
    exact this rfl
  obtain ⟨b1, b2, b3⟩ := a3 _ hd4
  refine ⟨fun y hy => ?_, fun y => ?_, fun d hd => ?_, fun d y hd => ?_⟩
  · have := a1 y hy
    have z : y ≠ x := by omega
    rw [na_un z] at this ⊢
    exact this
  · by_cases z : y = x
    · subst z; rw [na_us]; exact ht
    · have := a2 y
      rw [na_un z] at this ⊢
      exact this
  · by_cases z : d = t / 4
    · subst z
      have ei : rl_I R x t (t / 4) = x :: R (t / 4) := if_pos ⟨h0, hc, rfl⟩
      rw [ei]
      refine ⟨na_us, ⟨h1, by rw [na_us, b1], ?_⟩, List.nodup_cons.mpr ⟨nx _ hd, b3⟩⟩
      cases er : R (t / 4) with
      | nil => exact trivial
      | cons w ws =>
        rw [er] at b2 b3 h2 h3
        have hne : w :: ws ≠ [] := fun z => nomatch z
        refine rl_fr _ _ (fun y hy => ?_) (rl_st (p' := x) b2 (List.nodup_cons.mp b3).1)
        have yx : y ≠ x := fun q => nx _ hd (by rw [er]; exact q ▸ hy)
        refine ⟨na_un yx, ?_⟩
        by_cases q : y = w
        · rw [q, na_us]; exact h3 hne
        · rw [na_un q]; exact h2 y yx (Or.inr q)
    · have ei : rl_I R x t d = R d := if_neg (fun q => z q.2.2)
      rw [ei]
      obtain ⟨c1, c2, c3⟩ := a3 d hd
      refine ⟨(na_un z).trans c1, rl_fr _ _ (fun y hy => ?_) c2, c3⟩
      have yx : y ≠ x := fun q => nx _ hd (q ▸ hy)
      refine ⟨na_un yx, h2 y yx ?_⟩
      by_cases q : R (t / 4) = []
      · exact Or.inl q
      · refine Or.inr (fun r => ?_)
        have m := na_hdm q 0
        rw [← r] at m
        exact z ((((a4 d y hd).mp hy).2.2.1).symm.trans ((a4 _ y hd4).mp m).2.2.1)
  · by_cases z : d = t / 4
    · subst z
      have ei : rl_I R x t (t / 4) = x :: R (t / 4) := if_pos ⟨h0, hc, rfl⟩
      rw [ei, List.mem_cons]
      by_cases q : y = x
      · subst q
        rw [na_us]
        exact ⟨fun _ => ⟨hx', h0, rfl, fun r => hc r.symm⟩, fun _ => Or.inl rfl⟩
      · have := a4 _ y hd
        rw [na_un q] at this ⊢
        rw [this]
        exact ⟨fun r => r.elim (fun r => absurd r q) id, Or.inr⟩
    · have ei : rl_I R x t d = R d := if_neg (fun q => z q.2.2)
      rw [ei]
      by_cases q : y = x
      · subst q
        rw [na_us]
        exact ⟨fun r => absurd r (nx d hd), fun r => absurd r.2.2.1.symm z⟩
      · have := a4 _ y hd
        rw [na_un q] at this ⊢
        exact this
end REM
end
section
/-! forget, remember, setLink over the printed predicates -/
section LNK
variable {zk1 zk2 zk3 zk4 zrc zmb zft zlt ztc zbk zsk zqc zmt zrl zst : Int32} {zra zsr zfo zva zso zhe zrn zrp ztf zcn zcu zrh zth ztt ztk zqu zbo zbp zsl : Nat → Int32}
theorem lk_f50 {post : SX → Prop} {x : Nat} {rn rp : Nat → Nat} (hx : x < 448) (k : post (zk1, zk2, zk3, zk4, zrc, zmb, zft, zlt, ztc, zbk, zsk, zqc, zmt, zrl, zst, zra, zsr, zfo, zva, zso, zhe, na_A (na_u rn x 0), na_A (na_u rp x 0), ztf, zcn, zcu, zrh, zth, ztt, ztk, zqu, zbo, zbp, zsl)) : wX_forget_50 post (nI x) zk1 zk2 zk3 zk4 zrc zmb zft zlt ztc zbk zsk zqc zmt zrl zst zra zsr zfo zva zso zhe (na_A rn) (na_A rp) ztf zcn zcu zrh zth ztt ztk zqu zbo zbp zsl := by
  have w : vp_in (nI x) 448 := vp_in_nI hx (by omega)
  exact ⟨w, nm_r (na_wr (v := 0) (by omega)) ⟨w, nm_r (na_wr (v := 0) (by omega)) k⟩⟩
theorem lk_f38 {post : SX → Prop} {x nx pv : Nat} {rn rp : Nat → Nat} (hx : x < 448) (hn : nx < 448) (k : post (zk1, zk2, zk3, zk4, zrc, zmb, zft, zlt, ztc, zbk, zsk, zqc, zmt, zrl, zst, zra, zsr, zfo, zva, zso, zhe, na_A (na_u rn x 0), na_A (na_u (if nx = 0 then rp else na_u rp nx pv) x 0), ztf, zcn, zcu, zrh, zth, ztt, ztk, zqu, zbo, zbp, zsl)) : wX_forget_38 post (nI x) (nI nx) (nI pv) zk1 zk2 zk3 zk4 zrc zmb zft zlt ztc zbk zsk zqc zmt zrl zst zra zsr zfo zva zso zhe (na_A rn) (na_A rp) ztf zcn zcu zrh zth ztt ztk zqu zbo zbp zsl := by
  by_cases z : nx = 0
  · rw [if_pos z] at k
    subst z
    exact br_t nI_0 (lk_f50 hx k)
  · rw [if_neg z] at k
    exact br_f (fun q => z ((na_e0 (by omega)).mp q)) ⟨vp_in_nI hn (by omega), nm_r (na_wr (by omega)) (lk_f50 hx k)⟩
theorem lk_forget {post : SX → Prop} {he rn rp rh : Nat → Nat} {R : Nat → List Nat} {x : Nat} (h : rl_RI he R rn rp rh) (hx : x < 448) (h0 : he x ≠ 0) (hc : he x / 4 ≠ x / 16)
    (k : ∀ rn' rp' rh', rl_RI (na_u he x 0) (rl_F R x) rn' rp' rh' → post (zk1, zk2, zk3, zk4, zrc, zmb, zft, zlt, ztc, zbk, zsk, zqc, zmt, zrl, zst, zra, zsr, zfo, zva, zso, zhe, na_A rn', na_A rp', ztf, zcn, zcu, na_A rh', zth, ztt, ztk, zqu, zbo, zbp, zsl)) : wpX_forget post (zk1, zk2, zk3, zk4, zrc, zmb, zft, zlt, ztc, zbk, zsk, zqc, zmt, zrl, zst, zra, zsr, zfo, zva, zso, zhe, na_A rn, na_A rp, ztf, zcn, zcu, na_A rh, zth, ztt, ztk, zqu, zbo, zbp, zsl) (nI x) (nI (he x / 4)) := by
  have hR := h
  obtain ⟨a1, a2, a3, a4⟩ := h
  have hcar : he x / 4 < 28 := by have := a2 x; omega
  have hm : x ∈ R (he x / 4) := (a4 _ x hcar).mpr ⟨hx, h0, rfl, fun q => hc q.symm⟩
  obtain ⟨pre, pst, e⟩ := List.append_of_mem hm
  have m16 : ∀ y, y ∈ R (he x / 4) → 16 ≤ y ∧ y < 448 := fun y hy => by
    obtain ⟨q1, q2, q3, q4⟩ := (a4 _ y hcar).mp hy
    refine ⟨?_, q1⟩
    apply Nat.le_of_not_lt
    intro q
    exact q2 (a1 y q)
  obtain ⟨b1, b2, b3⟩ := a3 _ hcar
  rw [e] at b1 b2 b3
  obtain ⟨s1, s3, s4, s5⟩ := (rl_app pre 0).mp b2
  have b3' := List.nodup_append.mp b3
  have n1 : x ∉ pre := fun z => b3'.2.2 x z x List.mem_cons_self rfl
  have n2 : x ∉ pst := (List.nodup_cons.mp b3'.2.1).1
  have hn0 : pst ≠ [] → 16 ≤ pst.headD 0 ∧ pst.headD 0 < 448 ∧ pst.headD 0 ≠ x := fun q => by
    have m := na_hdm q 0
    have := m16 (pst.headD 0) (by rw [e]; exact List.mem_append_right _ (List.mem_cons_of_mem _ m))
    exact ⟨this.1, this.2, fun r => n2 (r ▸ m)⟩
  have hn1 : pst = [] → pst.headD 0 = 0 := fun q => by rw [q]; rfl
  have hn : pst.headD 0 < 448 := by
    by_cases q : pst = []
    · rw [hn1 q]; omega
    · exact (hn0 q).2.1
  have hp0 : pre ≠ [] → 16 ≤ rl_la 0 pre ∧ rl_la 0 pre < 448 ∧ rl_la 0 pre ≠ x := fun q => by
    have m := rl_lam pre 0 q
    have := m16 (rl_la 0 pre) (by rw [e]; exact List.mem_append_left _ m)
    exact ⟨this.1, this.2, fun r => n1 (r ▸ m)⟩
  have w : vp_in (nI x) 448 := vp_in_nI hx (by omega)
  have p3 : ∀ (pv : Nat), ∀ y, y ≠ x → (pst = [] ∨ y ≠ pst.headD 0) → na_u (if pst.headD 0 = 0 then rp else na_u rp (pst.headD 0) pv) x 0 y = rp y := fun pv y hy hz => by
    rw [na_un hy]
    by_cases q : pst.headD 0 = 0
    · rw [if_pos q]
    · rw [if_neg q]
      rcases hz with hz | hz
      · exact absurd (hn1 hz) q
      · exact na_un hz
  have p4 : ∀ (pv : Nat), pst ≠ [] → na_u (if pst.headD 0 = 0 then rp else na_u rp (pst.headD 0) pv) x 0 (pst.headD 0) = pv := fun pv q => by
    have := hn0 q
    rw [na_un this.2.2, if_neg (by omega), na_us]
  refine ⟨w, nm_r (e' := nI (pst.headD 0)) (by rw [na_rd (by omega), s4]) ⟨w, nm_r (e' := nI (rl_la 0 pre)) (by rw [na_rd (by omega), s3]) ?_⟩⟩
  by_cases z : pre = []
  · subst z
    exact br_t nI_0 ⟨vp_in_nI hcar (by omega), nm_r (na_wr (by omega)) (lk_f38 (pv := 0) hx hn (k _ _ _ (rl_del hR hx h0 e (fun y hy _ => na_un hy) (fun q => absurd rfl q) (p3 0) (p4 0)
      (fun d hd => na_un (hd.elim id (fun q => absurd rfl q))) (fun _ => na_us))))⟩
  · have hp := hp0 z
    refine br_f (fun q => ?_) ⟨vp_in_nI hp.2.1 (by omega), nm_r (na_wr (by omega)) (lk_f38 hx hn (k _ _ _ (rl_del hR hx h0 e (fun y hy hz => ?_) (fun q => ?_) (p3 _) (p4 _) (fun d hd => rfl) (fun q => absurd q z))))⟩
    · have := (na_e0 (by omega)).mp q
      omega
    · rw [na_un hy]
      exact na_un (hz.elim (fun q => absurd q z) id)
    · rw [na_un hp.2.2, na_us]
theorem lk_rem {post : SX → Prop} {he rn rp rh : Nat → Nat} {R : Nat → List Nat} {x t : Nat} (h : rl_RI (na_u he x 0) R rn rp rh) (hx : 16 ≤ x) (hx' : x < 448) (ht : t < 112) (h0 : t ≠ 0) (hc : t / 4 ≠ x / 16)
    (k : ∀ rn' rp' rh', rl_RI (na_u he x t) (rl_I R x t) rn' rp' rh' → post (zk1, zk2, zk3, zk4, zrc, zmb, zft, zlt, ztc, zbk, zsk, zqc, zmt, zrl, zst, zra, zsr, zfo, zva, zso, zhe, na_A rn', na_A rp', ztf, zcn, zcu, na_A rh', zth, ztt, ztk, zqu, zbo, zbp, zsl)) : wpX_remember post (zk1, zk2, zk3, zk4, zrc, zmb, zft, zlt, ztc, zbk, zsk, zqc, zmt, zrl, zst, zra, zsr, zfo, zva, zso, zhe, na_A rn, na_A rp, ztf, zcn, zcu, na_A rh, zth, ztt, ztk, zqu, zbo, zbp, zsl) (nI x) (nI (t / 4)) := by
  have hR := h
  obtain ⟨a1, a2, a3, a4⟩ := h
  have hcar : t / 4 < 28 := by omega
  obtain ⟨b1, b2, b3⟩ := a3 _ hcar
  have w : vp_in (nI x) 448 := vp_in_nI hx' (by omega)
  have wc : vp_in (nI (t / 4)) 28 := vp_in_nI hcar (by omega)
  have hh : R (t / 4) ≠ [] → 16 ≤ (R (t / 4)).headD 0 ∧ (R (t / 4)).headD 0 < 448 ∧ (R (t / 4)).headD 0 ≠ x := fun q => by
    obtain ⟨q1, q2, q3, q4⟩ := (a4 _ _ hcar).mp (na_hdm q 0)
    refine ⟨?_, q1, fun r => ?_⟩
    · apply Nat.le_of_not_lt
      intro r
      exact q2 (a1 _ r)
    · rw [r, na_us] at q2
      exact q2 rfl
  refine ⟨wc, nm_r (e' := nI (rh (t / 4))) (na_rd (by omega)) ⟨w, nm_r (na_wr (by omega)) ⟨w, nm_r (na_wr (v := 0) (by omega)) ?_⟩⟩⟩
  by_cases z : R (t / 4) = []
  · have e0 : rh (t / 4) = 0 := by rw [b1, z]; rfl
    exact br_t (by rw [e0]; exact nI_0) ⟨wc, nm_r (na_wr (by omega)) (k _ _ _ (rl_ins hR hx hx' ht h0 hc na_us (fun y hy _ => na_un hy) (fun q => absurd z q)))⟩
  · have hq := hh z
    rw [← b1] at hq
    refine br_f (fun q => ?_) ⟨vp_in_nI hq.2.1 (by omega), nm_r (na_wr (by omega)) ⟨wc, nm_r (na_wr (by omega)) (k _ _ _ (rl_ins hR hx hx' ht h0 hc ?_ (fun y hy hz => ?_) (fun q => ?_)))⟩⟩
    · have := (na_e0 (by omega)).mp q
      omega
    · rw [na_un (fun q => hq.2.2 q.symm), na_us]
    · rw [← b1] at hz
      rw [na_un (hz.elim (fun q => absurd q z) id), na_un hy]
    · rw [← b1, na_us]
theorem lk_36 {post : SX → Prop} {he rn rp rh : Nat → Nat} {R : Nat → List Nat} {x t : Nat} (h : rl_RI (na_u he x 0) R rn rp rh) (hx : 16 ≤ x) (hx' : x < 448) (ht : t < 112)
    (k : ∀ rn' rp' rh', rl_RI (na_u he x t) (rl_I R x t) rn' rp' rh' → post (zk1, zk2, zk3, zk4, zrc, zmb, zft, zlt, ztc, zbk, zsk, zqc, zmt, zrl, zst, zra, zsr, zfo, zva, zso, na_A (na_u he x t), na_A rn', na_A rp', ztf, zcn, zcu, na_A rh', zth, ztt, ztk, zqu, zbo, zbp, zsl)) : wX_setLink_36 post (nI x) (nI t) (nI (x / 16)) zk1 zk2 zk3 zk4 zrc zmb zft zlt ztc zbk zsk zqc zmt zrl zst zra zsr zfo zva zso (na_A he) (na_A rn) (na_A rp) ztf zcn zcu (na_A rh) zth ztt ztk zqu zbo zbp zsl := by
  have w : vp_in (nI x) 448 := vp_in_nI hx' (by omega)
  refine ⟨w, nm_r (na_wr (by omega)) (nm_r (na_s2 (by omega)) ?_)⟩
  by_cases z : t = 0
  · refine br_t ((na_e0 (by omega)).mpr z) (k _ _ _ (rl_ins0 h hx ht (Or.inl z)))
  · refine br_f (fun q => z ((na_e0 (by omega)).mp q)) ?_
    by_cases y : t / 4 = x / 16
    · exact br_t (congrArg nI y) (k _ _ _ (rl_ins0 h hx ht (Or.inr y)))
    · exact br_f (fun q => y ((nI_eq (by omega) (by omega)).mp q)) (lk_rem h hx hx' ht z y (fun rn' rp' rh' H => k rn' rp' rh' H))
theorem lk_set {post : SX → Prop} {he rn rp rh : Nat → Nat} {R : Nat → List Nat} {x t : Nat} (h : rl_RI he R rn rp rh) (hx : 16 ≤ x) (hx' : x < 448) (ht : t < 112)
    (k : ∀ rn' rp' rh', rl_RI (na_u he x t) (rl_S R x t) rn' rp' rh' → post (zk1, zk2, zk3, zk4, zrc, zmb, zft, zlt, ztc, zbk, zsk, zqc, zmt, zrl, zst, zra, zsr, zfo, zva, zso, na_A (na_u he x t), na_A rn', na_A rp', ztf, zcn, zcu, na_A rh', zth, ztt, ztk, zqu, zbo, zbp, zsl)) : wpX_setLink post (zk1, zk2, zk3, zk4, zrc, zmb, zft, zlt, ztc, zbk, zsk, zqc, zmt, zrl, zst, zra, zsr, zfo, zva, zso, na_A he, na_A rn, na_A rp, ztf, zcn, zcu, na_A rh, zth, ztt, ztk, zqu, zbo, zbp, zsl) (nI x) (nI t) := by
  have w : vp_in (nI x) 448 := vp_in_nI hx' (by omega)
  have hb : he x < 112 := h.2.1 x
  refine nm_r (na_s4 (by omega)) ⟨w, nm_r (na_rd (by omega)) (nm_r (na_s2 (by omega)) ?_)⟩
  by_cases z : he x = 0
  · exact br_t ((na_e0 (by omega)).mpr z) (lk_36 (rl_del0 h (Or.inl z)) hx hx' ht k)
  · refine br_f (fun q => z ((na_e0 (by omega)).mp q)) ?_
    by_cases y : he x / 4 = x / 16
    · exact br_t (congrArg nI y) (lk_36 (rl_del0 h (Or.inr y)) hx hx' ht k)
    · exact br_f (fun q => y ((nI_eq (by omega) (by omega)).mp q)) (lk_forget h hx' z y (fun rn' rp' rh' H => lk_36 H hx hx' ht k))
end LNK
end
section
/-! trains: lists of cars -/
section TRN
def tr_nx (cn : Nat → Nat) : List Nat → Prop
  | [] => True
  | x :: xs => cn x = xs.headD 0 ∧ tr_nx cn xs
def tr_TI (ex : Nat) (L : Nat → List Nat) (tf cn cu th tt tk : Nat → Nat) : Prop :=
  (∀ t, 1 ≤ t → t ≤ 5 → (L t).Nodup ∧ tr_nx cn (L t) ∧ (t ≠ ex → th t = (L t).headD 0 ∧ tt t = rl_la 0 (L t) ∧ tk t = (L t).length)) ∧
  (∀ t x, 1 ≤ t → t ≤ 5 → (x ∈ L t ↔ 1 ≤ x ∧ x < 28 ∧ tf x = t)) ∧ (∀ x, tf x ≤ 5) ∧ (∀ x, cu x ≤ 4)
def tr_L (L : Nat → List Nat) (t x : Nat) : Nat → List Nat := fun s => if s = t then L s ++ [x] else L s
theorem tr_Ls {L : Nat → List Nat} {t x : Nat} : tr_L L t x t = L t ++ [x] := if_pos rfl
theorem tr_Ln {L : Nat → List Nat} {t x s : Nat} (h : s ≠ t) : tr_L L t x s = L s := if_neg h
theorem tr_nxf {cn cn' : Nat → Nat} : ∀ l : List Nat, (∀ y, y ∈ l → cn' y = cn y) → tr_nx cn l → tr_nx cn' l := by
  intro l
  induction l with
  | nil => intro _ _; exact trivial
  | cons x xs ih =>
    intro h ⟨h1, h2⟩
    exact ⟨(h x List.mem_cons_self).trans h1, ih (fun y hy => h y (List.mem_cons_of_mem _ hy)) h2⟩
theorem tr_nxa {cn cn' : Nat → Nat} {x : Nat} (h0 : cn' x = 0) : ∀ (l : List Nat) (p : Nat), l.Nodup → tr_nx cn l → (∀ y, y ∈ l → y ≠ rl_la p l → cn' y = cn y) → (l ≠ [] → cn' (rl_la p l) = x) → tr_nx cn' (l ++ [x]) := by
  intro l
  induction l with
  | nil => intro p _ _ _ _; exact ⟨h0, trivial⟩
  | cons y ys ih =>
    intro p hd ⟨h1, h2⟩ h3 h4
    have hd' := List.nodup_cons.mp hd
    cases ys with
    | nil => exact ⟨h4 (fun z => nomatch z), h0, trivial⟩
    | cons z zs =>
      have hne : y ≠ rl_la y (z :: zs) := fun q => hd'.1 (q ▸ rl_lam (z :: zs) y (fun q => nomatch q))
      refine ⟨(h3 y List.mem_cons_self hne).trans h1, ih y hd'.2 h2 (fun w hw hq => h3 w (List.mem_cons_of_mem _ hw) hq) (fun _ => h4 (fun q => nomatch q))⟩
theorem tr_laa (l : List Nat) (x : Nat) : ∀ p, rl_la p (l ++ [x]) = x := by
  induction l with
  | nil => intro p; rfl
  | cons y ys ih => intro p; exact ih y
theorem tr_la0 {l : List Nat} (h : ∀ y, y ∈ l → 1 ≤ y) : rl_la 0 l = 0 ↔ l = [] := by
  constructor
  · intro e
    apply Classical.byContradiction
    intro q
    have := h _ (rl_lam l 0 q)
    omega
  · intro e; rw [e]; rfl
theorem tr_hd0 {l : List Nat} (h : ∀ y, y ∈ l → 1 ≤ y) : l.headD 0 = 0 ↔ l = [] := by
  constructor
  · intro e
    apply Classical.byContradiction
    intro q
    have := h _ (na_hdm q 0)
    omega
  · intro e; rw [e]; rfl
theorem tr_add {L : Nat → List Nat} {tf cn cu th tt tk cn' th' : Nat → Nat} {t x : Nat} (h : tr_TI 0 L tf cn cu th tt tk) (ht : 1 ≤ t) (ht' : t ≤ 5) (hx : 1 ≤ x) (hx' : x < 28) (h0 : tf x = 0)
    (c1 : cn' x = 0) (c2 : ∀ y, y ≠ x → (L t = [] ∨ y ≠ rl_la 0 (L t)) → cn' y = cn y) (c3 : L t ≠ [] → cn' (rl_la 0 (L t)) = x)
    (d1 : L t = [] → th' t = x) (d2 : ∀ s, (s ≠ t ∨ L t ≠ []) → th' s = th s) :
    tr_TI 0 (tr_L L t x) (na_u tf x t) cn' (na_u cu x 0) th' (na_u tt t x) (na_u tk t (tk t + 1)) := by
  obtain ⟨a1, a2, a3, a4⟩ := h
  have nx : ∀ s, 1 ≤ s → s ≤ 5 → x ∉ L s := fun s h1 h2 q => by
    have := ((a2 s x h1 h2).mp q).2.2
    omega
  obtain ⟨b1, b2, b3⟩ := a1 t ht ht'
  obtain ⟨b3, b4, b5⟩ := b3 (by omega)
  refine ⟨fun s h1 h2 => ?_, fun s y h1 h2 => ?_, fun y => ?_, fun y => ?_⟩
  · by_cases z : s = t
    · subst z
      rw [tr_Ls]
      refine ⟨List.nodup_append.mpr ⟨b1, List.nodup_cons.mpr ⟨fun q => (nomatch q), List.nodup_nil⟩, fun a ha b hb q => ?_⟩, ?_, fun _ => ⟨?_, ?_, ?_⟩⟩
      · rw [List.mem_singleton] at hb
        exact nx s h1 h2 (by rw [← hb, ← q]; exact ha)
      · refine tr_nxa c1 _ 0 b1 b2 (fun y hy hq => c2 y (fun q => nx s h1 h2 (q ▸ hy)) (Or.inr hq)) c3
      · cases e : L s with
        | nil => exact d1 e
        | cons w ws =>
          have hne : L s ≠ [] := fun q => by rw [e] at q; exact nomatch q
          rw [d2 s (Or.inr hne), b3, e]
          rfl
      · rw [na_us, tr_laa]
      · rw [na_us, b5, List.length_append]
        rfl
    · rw [tr_Ln z]
      obtain ⟨e1, e2, e3⟩ := a1 s h1 h2
      refine ⟨e1, tr_nxf _ (fun y hy => c2 y (fun q => nx s h1 h2 (q ▸ hy)) ?_) e2, fun _ => ?_⟩
      · by_cases q : L t = []
        · exact Or.inl q
        · refine Or.inr (fun r => z ?_)
          have m := rl_lam (L t) 0 q
          rw [← r] at m
          rw [← ((a2 s y h1 h2).mp hy).2.2, ← ((a2 t y ht ht').mp m).2.2]
      · obtain ⟨e3, e4, e5⟩ := e3 (by omega)
        exact ⟨(d2 s (Or.inl z)).trans e3, (na_un z).trans e4, (na_un z).trans e5⟩
  · by_cases z : s = t
    · subst z
      rw [tr_Ls, List.mem_append, List.mem_singleton]
      by_cases q : y = x
      · subst q
        rw [na_us]
        exact ⟨fun _ => ⟨hx, hx', rfl⟩, fun _ => Or.inr rfl⟩
      · rw [na_un q, ← a2 s y h1 h2]
        exact ⟨fun r => r.elim id (fun r => absurd r q), Or.inl⟩
    · rw [tr_Ln z]
      by_cases q : y = x
      · subst q
        rw [na_us]
        exact ⟨fun r => absurd r (nx s h1 h2), fun r => absurd r.2.2.symm z⟩
      · rw [na_un q]
        exact a2 s y h1 h2
  · by_cases q : y = x
    · subst q; rw [na_us]; exact ht'
    · rw [na_un q]; exact a3 y
  · by_cases q : y = x
    · subst q; rw [na_us]; omega
    · rw [na_un q]; exact a4 y
theorem tr_cu {ex : Nat} {L : Nat → List Nat} {tf cn cu th tt tk : Nat → Nat} {x v : Nat} (h : tr_TI ex L tf cn cu th tt tk) (hv : v ≤ 4) : tr_TI ex L tf cn (na_u cu x v) th tt tk := by
  obtain ⟨a1, a2, a3, a4⟩ := h
  refine ⟨a1, a2, a3, fun y => ?_⟩
  by_cases q : y = x
  · subst q; rw [na_us]; exact hv
  · rw [na_un q]; exact a4 y
def tr_TP (L : Nat → List Nat) (tf cu : Nat → Nat) (t b : Nat) (L' : Nat → List Nat) (tf' cu' : Nat → Nat) (x i : Nat) : Prop :=
  1 ≤ x ∧ x < 28 ∧ x ≠ b ∧ i < 4 ∧
  ((L' = L ∧ tf' = tf ∧ L t ≠ [] ∧ x = rl_la 0 (L t) ∧ i = cu x ∧ cu' = na_u cu x (i + 1)) ∨
   (tf x = 0 ∧ i = 0 ∧ (L t = [] ∨ rl_la 0 (L t) = b ∨ cu (rl_la 0 (L t)) = 4) ∧ L' = tr_L L t x ∧ tf' = na_u tf x t ∧ cu' = na_u cu x 1))
variable {zk1 zk2 zk3 zk4 zrc zmb zft zlt ztc zbk zsk zqc zmt zrl zst : Int32} {zra zsr zfo zva zso zhe zrn zrp ztf zcn zcu zrh zth ztt ztk zqu zbo zbp zsl : Nat → Int32}
theorem tr_free2 {post : Int32 → Prop} {tf : Nat → Nat} {w : Nat} (hw : w < 28) (h0 : tf w = 0) (hb : ∀ x, tf x ≤ 5) (k : ∀ x, 1 ≤ x → x < 28 → tf x = 0 → post (nI x)) :
    ∀ n i, 1 ≤ i → i ≤ w → w - i < n → wX_freeCar_2 post zk1 zk2 zk3 zk4 zrc zmb zft zlt ztc zbk zsk zqc zmt zrl zst zra zsr zfo zva zso zhe zrn zrp (na_A tf) zcn zcu zrh zth ztt ztk zqu zbo zbp zsl n (nI i) := by
  intro n
  induction n with
  | zero => intro i _ _ h; omega
  | succ n ih =>
    intro i h1 h2 h3
    rw [wX_freeCar_2]
    have hr : na_A tf (nI i).toNatClampNeg = nI (tf i) := na_rd (by omega)
    refine br_f (nI_ge (b := 28) (by omega) (by omega)) ⟨vp_in_nI (by omega) (by omega), ?_⟩
    by_cases z : tf i = 0
    · exact br_t (by rw [hr, z]; exact nI_0) (k i h1 (by omega) z)
    · have hiw : i ≠ w := fun q => z (q ▸ h0)
      refine br_f (fun q => z ?_) (nm_r (nI_1 i) (ih (i + 1) (by omega) (by omega) (by omega)))
      rw [hr] at q
      exact (na_e0 (by have := hb i; omega)).mp q
theorem tr_free {post : Int32 → Prop} {tf : Nat → Nat} (hf : ∃ w, 1 ≤ w ∧ w < 28 ∧ tf w = 0) (hb : ∀ x, tf x ≤ 5) (k : ∀ x, 1 ≤ x → x < 28 → tf x = 0 → post (nI x)) : wpX_freeCar post (zk1, zk2, zk3, zk4, zrc, zmb, zft, zlt, ztc, zbk, zsk, zqc, zmt, zrl, zst, zra, zsr, zfo, zva, zso, zhe, zrn, zrp, na_A tf, zcn, zcu, zrh, zth, ztt, ztk, zqu, zbo, zbp, zsl) := by
  obtain ⟨w, h1, h2, h3⟩ := hf
  exact ⟨28, tr_free2 h2 h3 hb k 28 1 (by omega) h1 (by omega)⟩
theorem tr_add54 {post : Int32 → SX → Prop} {t x : Nat} {tt tk : Nat → Nat} (ht' : t ≤ 5) (k : post (nI x) (zk1, zk2, zk3, zk4, zrc, zmb, zft, zlt, ztc, zbk, zsk, zqc, zmt, zrl, zst, zra, zsr, zfo, zva, zso, zhe, zrn, zrp, ztf, zcn, zcu, zrh, zth, na_A (na_u tt t x), na_A (na_u tk t (tk t + 1)), zqu, zbo, zbp, zsl)) : wX_addCar_54 post (nI t) (nI x) zk1 zk2 zk3 zk4 zrc zmb zft zlt ztc zbk zsk zqc zmt zrl zst zra zsr zfo zva zso zhe zrn zrp ztf zcn zcu zrh zth (na_A tt) (na_A tk) zqu zbo zbp zsl := by
  have w : vp_in (nI t) 6 := vp_in_nI (by omega) (by omega)
  refine ⟨w, nm_r (na_wr (by omega)) ⟨w, w, nm_r (e' := na_A (na_u tk t (tk t + 1))) ?_ k⟩⟩
  rw [na_rd (by omega), nI_1, na_wr (by omega)]
theorem tr_addC {post : Int32 → SX → Prop} {L : Nat → List Nat} {tf cn cu th tt tk : Nat → Nat} {t : Nat} (h : tr_TI 0 L tf cn cu th tt tk) (ht : 1 ≤ t) (ht' : t ≤ 5) (hf : ∃ w, 1 ≤ w ∧ w < 28 ∧ tf w = 0)
    (k : ∀ x cn' th' tt' tk', 1 ≤ x → x < 28 → tf x = 0 → tr_TI 0 (tr_L L t x) (na_u tf x t) cn' (na_u cu x 0) th' tt' tk' → post (nI x) (zk1, zk2, zk3, zk4, zrc, zmb, zft, zlt, ztc, zbk, zsk, zqc, zmt, zrl, zst, zra, zsr, zfo, zva, zso, zhe, zrn, zrp, na_A (na_u tf x t), na_A cn', na_A (na_u cu x 0), zrh, na_A th', na_A tt', na_A tk', zqu, zbo, zbp, zsl)) :
    wpX_addCar post (zk1, zk2, zk3, zk4, zrc, zmb, zft, zlt, ztc, zbk, zsk, zqc, zmt, zrl, zst, zra, zsr, zfo, zva, zso, zhe, zrn, zrp, na_A tf, na_A cn, na_A cu, zrh, na_A th, na_A tt, na_A tk, zqu, zbo, zbp, zsl) (nI t) := by
  have hT := h
  obtain ⟨a1, a2, a3, a4⟩ := h
  obtain ⟨b1, b2, b3⟩ := a1 t ht ht'
  obtain ⟨b3, b4, b5⟩ := b3 (by omega)
  have hL : ∀ y, y ∈ L t → 1 ≤ y ∧ y < 28 ∧ tf y = t := fun y hy => (a2 t y ht ht').mp hy
  have w : vp_in (nI t) 6 := vp_in_nI (by omega) (by omega)
  refine tr_free hf a3 (fun x h1 h2 h3 => ?_)
  have wx : vp_in (nI x) 28 := vp_in_nI (by omega) (by omega)
  refine ⟨wx, nm_r (na_wr (by omega)) ⟨wx, nm_r (na_wr (v := 0) (by omega)) ⟨wx, nm_r (na_wr (v := 0) (by omega)) ⟨w, nm_r (na_rd (by omega)) ?_⟩⟩⟩⟩
  rw [b4]
  by_cases z : L t = []
  · have e0 : rl_la 0 (L t) = 0 := by rw [z]; rfl
    refine br_t (by rw [e0]; exact nI_0) ⟨w, nm_r (na_wr (by omega)) (tr_add54 ht' (k x _ _ _ _ h1 h2 h3 (tr_add hT ht ht' h1 h2 h3 na_us (fun y hy _ => na_un hy) (fun q => absurd z q) (fun _ => na_us) (fun s hs => na_un (hs.elim id (fun q => absurd z q))))))⟩
  · have hm := hL _ (rl_lam (L t) 0 z)
    have hne : rl_la 0 (L t) ≠ x := fun q => by rw [q] at hm; omega
    refine br_f (fun q => ?_) ⟨vp_in_nI hm.2.1 (by omega), nm_r (na_wr (by omega)) (tr_add54 ht' (k x _ _ _ _ h1 h2 h3 (tr_add hT ht ht' h1 h2 h3 ?_ (fun y hy hz => ?_) (fun _ => na_us) (fun q => absurd q z) (fun s _ => rfl))))⟩
    · have := (na_e0 (by omega)).mp q
      omega
    · rw [na_un (fun q => hne q.symm), na_us]
    · rw [na_un (hz.elim (fun q => absurd q z) id), na_un hy]
theorem tr_take32 {post : Int32 → SX → Prop} {x : Nat} {cu : Nat → Nat} (hx : x < 28) (k : post (nI (4 * x + cu x)) (zk1, zk2, zk3, zk4, zrc, zmb, zft, zlt, ztc, zbk, zsk, zqc, zmt, zrl, zst, zra, zsr, zfo, zva, zso, zhe, zrn, zrp, ztf, zcn, na_A (na_u cu x (cu x + 1)), zrh, zth, ztt, ztk, zqu, zbo, zbp, zsl)) : wX_takePlace_32 post (nI x) zk1 zk2 zk3 zk4 zrc zmb zft zlt ztc zbk zsk zqc zmt zrl zst zra zsr zfo zva zso zhe zrn zrp ztf zcn (na_A cu) zrh zth ztt ztk zqu zbo zbp zsl := by
  have w : vp_in (nI x) 28 := vp_in_nI hx (by omega)
  refine ⟨w, nm_r (e' := nI (4 * x + cu x)) ?_ ⟨w, w, nm_r (e' := na_A (na_u cu x (cu x + 1))) ?_ k⟩⟩
  · rw [na_rd (by omega), na_m4]
  · rw [na_rd (by omega), nI_1, na_wr (by omega)]
/-- takePlace: the next place at the end of a train, not in the barred car -/
theorem tr_take {post : Int32 → SX → Prop} {L : Nat → List Nat} {tf cn cu th tt tk : Nat → Nat} {t b : Nat} (h : tr_TI 0 L tf cn cu th tt tk) (ht : 1 ≤ t) (ht' : t ≤ 5) (hb : b = 0 ∨ tf b ≠ 0) (hb' : b < 28) (hf : ∃ w, 1 ≤ w ∧ w < 28 ∧ tf w = 0)
    (k : ∀ L' tf' cn' cu' th' tt' tk' x i, tr_TI 0 L' tf' cn' cu' th' tt' tk' → tr_TP L tf cu t b L' tf' cu' x i → post (nI (4 * x + i)) (zk1, zk2, zk3, zk4, zrc, zmb, zft, zlt, ztc, zbk, zsk, zqc, zmt, zrl, zst, zra, zsr, zfo, zva, zso, zhe, zrn, zrp, na_A tf', na_A cn', na_A cu', zrh, na_A th', na_A tt', na_A tk', zqu, zbo, zbp, zsl)) :
    wpX_takePlace post (zk1, zk2, zk3, zk4, zrc, zmb, zft, zlt, ztc, zbk, zsk, zqc, zmt, zrl, zst, zra, zsr, zfo, zva, zso, zhe, zrn, zrp, na_A tf, na_A cn, na_A cu, zrh, na_A th, na_A tt, na_A tk, zqu, zbo, zbp, zsl) (nI t) (nI b) := by
  have hT := h
  obtain ⟨a1, a2, a3, a4⟩ := h
  obtain ⟨b1, b2, b3⟩ := a1 t ht ht'
  obtain ⟨b3, b4, b5⟩ := b3 (by omega)
  have hL : ∀ y, y ∈ L t → 1 ≤ y ∧ y < 28 ∧ tf y = t := fun y hy => (a2 t y ht ht').mp hy
  have w : vp_in (nI t) 6 := vp_in_nI (by omega) (by omega)
  have new : (L t = [] ∨ rl_la 0 (L t) = b ∨ cu (rl_la 0 (L t)) = 4) → wX_takePlace_26 post (nI t) zk1 zk2 zk3 zk4 zrc zmb zft zlt ztc zbk zsk zqc zmt zrl zst zra zsr zfo zva zso zhe zrn zrp (na_A tf) (na_A cn) (na_A cu) zrh (na_A th) (na_A tt) (na_A tk) zqu zbo zbp zsl := by
    intro hw
    refine tr_addC hT ht ht' hf (fun x cn' th' tt' tk' h1 h2 h3 hT' => ?_)
    refine tr_take32 h2 ?_
    rw [na_us, na_uu]
    have hxb : x ≠ b := fun q => by
      rcases hb with hb | hb
      · omega
      · exact hb (q ▸ h3)
    refine k (tr_L L t x) _ cn' _ th' tt' tk' x 0 ?_ ⟨h1, h2, hxb, by omega, Or.inr ⟨h3, rfl, hw, rfl, rfl, rfl⟩⟩
    have := tr_cu (x := x) (v := 1) hT' (by omega)
    rw [na_uu] at this
    exact this
  refine ⟨w, nm_r (na_rd (by omega)) ?_⟩
  rw [b4]
  by_cases z : L t = []
  · have e0 : rl_la 0 (L t) = 0 := by rw [z]; rfl
    exact br_t (by rw [e0]; exact nI_0) (new (Or.inl z))
  · have hm := hL _ (rl_lam (L t) 0 z)
    refine br_f (fun q => ?_) ?_
    · have := (na_e0 (by omega)).mp q
      omega
    · by_cases y : rl_la 0 (L t) = b
      · exact br_t (congrArg nI y) (new (Or.inr (Or.inl y)))
      · refine br_f (fun q => y ((nI_eq (by omega) (by omega)).mp q)) ⟨vp_in_nI hm.2.1 (by omega), ?_⟩
        have hr : na_A cu (nI (rl_la 0 (L t))).toNatClampNeg = nI (cu (rl_la 0 (L t))) := na_rd (by omega)
        rw [hr]
        have hc := a4 (rl_la 0 (L t))
        refine pk_lt (cu (rl_la 0 (L t))) 4 (fun q => ?_) (fun q => new (Or.inr (Or.inr (by omega))))
        refine tr_take32 hm.2.1 (k L tf cn _ th tt tk _ _ (tr_cu hT (by omega)) ⟨hm.1, hm.2.1, y, q, Or.inl ⟨rfl, rfl, z, rfl, rfl, rfl⟩⟩)
/-! the ring of trains -/
def tr_nt (l : Nat) : Nat := if l < 5 then l + 1 else 1
theorem tr_nt1 {l : Nat} : 1 ≤ tr_nt l ∧ tr_nt l ≤ 5 := by
  unfold tr_nt
  by_cases h : l < 5
  · rw [if_pos h]; omega
  · rw [if_neg h]; omega
theorem tr_open {post : Int32 → SX → Prop} {ft lt tc : Nat} (hl : lt ≤ 5) (hc : tc ≤ 5) (k : post (nI (tr_nt lt)) (zk1, zk2, zk3, zk4, zrc, zmb, nI (if tc = 0 then tr_nt lt else ft), nI (tr_nt lt), nI (tc + 1), zbk, zsk, zqc, zmt, zrl, zst, zra, zsr, zfo, zva, zso, zhe, zrn, zrp, ztf, zcn, zcu, zrh, zth, ztt, ztk, zqu, zbo, zbp, zsl)) : wpX_openTrain post (zk1, zk2, zk3, zk4, zrc, zmb, nI ft, nI lt, nI tc, zbk, zsk, zqc, zmt, zrl, zst, zra, zsr, zfo, zva, zso, zhe, zrn, zrp, ztf, zcn, zcu, zrh, zth, ztt, ztk, zqu, zbo, zbp, zsl) := by
  have s14 : ∀ x : Nat, x = tr_nt lt → wX_openTrain_14 post (nI x) zk1 zk2 zk3 zk4 zrc zmb (nI ft) (nI lt) (nI tc) zbk zsk zqc zmt zrl zst zra zsr zfo zva zso zhe zrn zrp ztf zcn zcu zrh zth ztt ztk zqu zbo zbp zsl := by
    intro x hx
    subst hx
    by_cases z : tc = 0
    · rw [if_pos z] at k
      exact br_t ((na_e0 (by omega)).mpr z) (nm_r (nI_1 tc) k)
    · rw [if_neg z] at k
      exact br_f (fun q => z ((na_e0 (by omega)).mp q)) (nm_r (nI_1 tc) k)
  refine nm_r (nI_1 lt) (pk_le (lt + 1) 5 (fun q => s14 _ ?_) (fun q => s14 1 ?_))
  · exact (if_pos (by omega)).symm
  · exact (if_neg (by omega)).symm
theorem tr_new {post : Int32 → SX → Prop} {ft lt tc : Nat} {cu tt tk : Nat → Nat} (hl : lt ≤ 5) (hc : tc ≤ 5) (ht : tc ≠ 0 → tt lt < 28)
    (k1 : tc ≠ 0 → post (nI lt) (zk1, zk2, zk3, zk4, zrc, zmb, nI ft, nI lt, nI tc, zbk, zsk, zqc, zmt, zrl, zst, zra, zsr, zfo, zva, zso, zhe, zrn, zrp, ztf, zcn, na_A cu, zrh, zth, na_A tt, na_A tk, zqu, zbo, zbp, zsl))
    (k2 : tc < 5 → post (nI (tr_nt lt)) (zk1, zk2, zk3, zk4, zrc, zmb, nI (if tc = 0 then tr_nt lt else ft), nI (tr_nt lt), nI (tc + 1), zbk, zsk, zqc, zmt, zrl, zst, zra, zsr, zfo, zva, zso, zhe, zrn, zrp, ztf, zcn, na_A cu, zrh, zth, na_A tt, na_A tk, zqu, zbo, zbp, zsl)) :
    wpX_trainForNew post (zk1, zk2, zk3, zk4, zrc, zmb, nI ft, nI lt, nI tc, zbk, zsk, zqc, zmt, zrl, zst, zra, zsr, zfo, zva, zso, zhe, zrn, zrp, ztf, zcn, na_A cu, zrh, zth, na_A tt, na_A tk, zqu, zbo, zbp, zsl) := by
  by_cases z : tc = 0
  · exact br_t ((na_e0 (by omega)).mpr z) (tr_open hl hc (k2 (by omega)))
  · have w : vp_in (nI lt) 6 := vp_in_nI (by omega) (by omega)
    have s49 : wX_trainForNew_49 post zk1 zk2 zk3 zk4 zrc zmb (nI ft) (nI lt) (nI tc) zbk zsk zqc zmt zrl zst zra zsr zfo zva zso zhe zrn zrp ztf zcn (na_A cu) zrh zth (na_A tt) (na_A tk) zqu zbo zbp zsl := br_t rfl (k1 z)
    have s50 : wX_trainForNew_50 post 1 zk1 zk2 zk3 zk4 zrc zmb (nI ft) (nI lt) (nI tc) zbk zsk zqc zmt zrl zst zra zsr zfo zva zso zhe zrn zrp ztf zcn (na_A cu) zrh zth (na_A tt) (na_A tk) zqu zbo zbp zsl := by
      refine br_f (by decide) (pk_le 5 tc (fun q => k1 z) (fun q => tr_open hl hc (k2 q)))
    refine br_f (fun q => z ((na_e0 (by omega)).mp q)) ⟨w, nm_r (na_rd (by omega)) ⟨vp_in_nI (ht z) (by omega), br_c (fun _ => s49) (fun _ => ⟨w, br_c (fun _ => s49) (fun _ => s50)⟩)⟩⟩
theorem tr_close {post : SX → Prop} {ft tc : Nat} {th tt tk : Nat → Nat} (hf : ft ≤ 5) (hc : tc ≤ 5) (h0 : 1 ≤ tc) (k : post (zk1, zk2, zk3, zk4, zrc, zmb, nI (tr_nt ft), zlt, nI (tc - 1), zbk, zsk, zqc, zmt, zrl, zst, zra, zsr, zfo, zva, zso, zhe, zrn, zrp, ztf, zcn, zcu, zrh, na_A (na_u th ft 0), na_A (na_u tt ft 0), na_A (na_u tk ft 0), zqu, zbo, zbp, zsl)) : wpX_closeFirstTrain post (zk1, zk2, zk3, zk4, zrc, zmb, nI ft, zlt, nI tc, zbk, zsk, zqc, zmt, zrl, zst, zra, zsr, zfo, zva, zso, zhe, zrn, zrp, ztf, zcn, zcu, zrh, na_A th, na_A tt, na_A tk, zqu, zbo, zbp, zsl) := by
  have w : vp_in (nI ft) 6 := vp_in_nI (by omega) (by omega)
  refine ⟨w, nm_r (na_wr (v := 0) (by omega)) ⟨w, nm_r (na_wr (v := 0) (by omega)) ⟨w, nm_r (na_wr (v := 0) (by omega)) (nm_r (nI_1 ft) ?_)⟩⟩⟩
  refine pk_le (ft + 1) 5 (fun q => nm_r (pk_sub (b := 1) h0) ?_) (fun q => nm_r (pk_sub (b := 1) h0) ?_)
  · have e : tr_nt ft = ft + 1 := if_pos (by omega)
    rw [e] at k
    exact k
  · have e : tr_nt ft = 1 := if_neg (by omega)
    rw [e] at k
    exact k
end TRN
end
section
/-! the heap: objects by slots, links by slots -/
section HEAP
def hp_pl (bp : Nat → Nat) (e : Nat) : Nat := if e = 0 then 0 else bp (e - 1)
def hp_T (bk : Nat) (bp : Nat → Nat) (e : Nat) : Prop := e = 0 ∨ (e ≤ bk ∧ bp (e - 1) ≠ 0)
def hp_H (c bk : Nat) (bo fc : Nat → Nat) (vl : Nat → Int32) (E : Nat → Nat → Nat) (Ro : Nat → Nat) (rc : Nat) (ra sr fo : Nat → Nat) (va : Nat → Int32) (so he bp tf cu : Nat → Nat) : Prop :=
  (∀ s, s < bk → bp s ≠ 0 → 4 ≤ bp s ∧ bp s < 112 ∧ sr (bp s) = bo s ∧ so (bp s) = s ∧ fo (bp s) = fc s ∧ va (bp s) = vl s ∧ ∀ f, f < 3 → he (4 * bp s + f) = hp_pl bp (E s f) ∧ hp_T bk bp (E s f)) ∧
  (∀ p, p < 112 → sr p ≠ 0 → so p < bk ∧ bp (so p) = p ∧ tf (p / 4) ≠ 0 ∧ p % 4 < cu (p / 4) ∧ p ≠ 0) ∧
  (∀ x, x < 448 → he x ≠ 0 → x % 4 < 3 ∧ sr (x / 4) ≠ 0) ∧
  (∀ r, r < rc → ra r = hp_pl bp (Ro r) ∧ hp_T bk bp (Ro r)) ∧
  (∀ x, 1 ≤ x → x < 28 → tf x ≠ 0 → x ≠ c → 1 ≤ cu x ∧ ∀ i, i < cu x → sr (4 * x + i) ≠ 0)
theorem hp_0 {bp : Nat → Nat} : hp_pl bp 0 = 0 := rfl
theorem hp_1 {bp : Nat → Nat} {s : Nat} : hp_pl bp (s + 1) = bp s := rfl
theorem hp_ph {n m : Nat} {f : Nat → Nat} (h1 : ∀ i, i < n → f i < m) (h2 : ∀ i j, i < n → j < n → f i = f j → i = j) : n ≤ m := by
  have hd : ((List.range n).map f).Nodup := by
    rw [List.nodup_iff_pairwise_ne, List.pairwise_map]
    refine List.Pairwise.imp_of_mem (R := fun a b => a ≠ b) ?_ List.nodup_range
    intro a b ha hb hab e
    exact hab (h2 a b (List.mem_range.mp ha) (List.mem_range.mp hb) e)
  have := na_len (n := m) hd (fun x hx => by
    obtain ⟨i, hi, rfl⟩ := List.mem_map.mp hx
    exact h1 i (List.mem_range.mp hi))
  rw [List.length_map, List.length_range] at this
  exact this
variable {c bk rc : Nat} {bo fc : Nat → Nat} {vl : Nat → Int32} {E : Nat → Nat → Nat} {Ro ra sr fo so he bp tf cu : Nat → Nat} {va : Nat → Int32}
/-- there is a free car -/
theorem hp_free (H : hp_H c bk bo fc vl E Ro rc ra sr fo va so he bp tf cu) (hk : bk ≤ 24) : ∃ w, 1 ≤ w ∧ w < 28 ∧ tf w = 0 := by
  apply Classical.byContradiction
  intro hn
  have hn' : ∀ w, 1 ≤ w → w < 28 → tf w ≠ 0 := fun w h1 h2 h3 => hn ⟨w, h1, h2, h3⟩
  obtain ⟨h1, h2, h3, h4, h5⟩ := H
  have key : ∀ i, i < 26 → (1 ≤ (if i + 1 < c then i + 1 else i + 2) ∧ (if i + 1 < c then i + 1 else i + 2) < 28 ∧ (if i + 1 < c then i + 1 else i + 2) ≠ c) := fun i hi => by
    by_cases q : i + 1 < c
    · rw [if_pos q]; omega
    · rw [if_neg q]; omega
  have hs : ∀ x, 1 ≤ x → x < 28 → x ≠ c → so (4 * x) < bk ∧ bp (so (4 * x)) = 4 * x := fun x a b d => by
    obtain ⟨e1, e2⟩ := h5 x a b (hn' x a b) d
    have := h2 (4 * x) (by omega) (e2 0 (by omega))
    exact ⟨this.1, this.2.1⟩
  have : 26 ≤ 24 := by
    refine hp_ph (f := fun i => so (4 * (if i + 1 < c then i + 1 else i + 2))) (fun i hi => ?_) (fun i j hi hj e => ?_)
    · obtain ⟨k1, k2, k3⟩ := key i hi
      have := (hs _ k1 k2 k3).1
      show so _ < 24
      omega
    · obtain ⟨k1, k2, k3⟩ := key i hi
      obtain ⟨l1, l2, l3⟩ := key j hj
      have e1 := (hs _ k1 k2 k3).2
      have e2 := (hs _ l1 l2 l3).2
      have e' : so (4 * (if i + 1 < c then i + 1 else i + 2)) = so (4 * (if j + 1 < c then j + 1 else j + 2)) := e
      rw [e', e2] at e1
      by_cases q : i + 1 < c
      · by_cases r : j + 1 < c
        · rw [if_pos q, if_pos r] at e1; omega
        · rw [if_pos q, if_neg r] at e1; omega
      · by_cases r : j + 1 < c
        · rw [if_neg q, if_pos r] at e1; omega
        · rw [if_neg q, if_neg r] at e1; omega
  omega
/-- the links of old carried over to fresh, f of them -/
def hp_mv (he : Nat → Nat) (p q : Nat) : Nat → Nat → Nat
  | 0 => he
  | f + 1 => na_u (na_u (hp_mv he p q f) (4 * p + f) 0) (4 * q + f) (hp_mv he p q f (4 * p + f))
theorem hp_mvs {p q : Nat} (hpq : p ≠ q) : ∀ f, f ≤ 3 → ∀ x, hp_mv he p q f x = if x / 4 = q ∧ x % 4 < f then he (4 * p + x % 4) else if x / 4 = p ∧ x % 4 < f then 0 else he x := by
  intro f
  induction f with
  | zero =>
    intro _ x
    rw [if_neg (by omega), if_neg (by omega)]
    rfl
  | succ f ih =>
    intro hf x
    have ih' := ih (by omega)
    show na_u (na_u (hp_mv he p q f) (4 * p + f) 0) (4 * q + f) (hp_mv he p q f (4 * p + f)) x = _
    have e0 : hp_mv he p q f (4 * p + f) = he (4 * p + f) := by
      rw [ih', if_neg (by omega), if_neg (by omega)]
    by_cases a : x = 4 * q + f
    · have a1 : x / 4 = q := by omega
      have a2 : x % 4 = f := by omega
      rw [if_pos ⟨a1, by omega⟩, a2, a, na_us, e0]
    · rw [na_un a]
      by_cases b : x = 4 * p + f
      · rw [if_neg (by omega), if_pos (by omega), b, na_us]
      · rw [na_un b, ih']
        by_cases d : x / 4 = q ∧ x % 4 < f
        · rw [if_pos d, if_pos (by omega)]
        · rw [if_neg d]
          by_cases d2 : x / 4 = p ∧ x % 4 < f
          · rw [if_pos d2, if_neg (by omega), if_pos (by omega)]
          · rw [if_neg d2, if_neg (by omega), if_neg (by omega)]
def hp_rr (i p q : Nat) (ra : Nat → Nat) : Nat → Nat := fun r => if r < i ∧ ra r = p then q else ra r
/-- one object moved: the heap's picture with the one slot's place changed -/
theorem hp_move {s x i g : Nat} {L L' : Nat → List Nat} {tf' cu' he' : Nat → Nat} (H : hp_H c bk bo fc vl E Ro rc ra sr fo va so he bp tf cu) (hB : ∀ s, s < bk → bo s ≠ 0 ∧ bo s < 2 ^ 31) (hs : s < bk) (h0 : bp s ≠ 0) (hc : bp s / 4 = c)
    (ha4 : ∀ y, cu y ≤ 4) (hg : 1 ≤ g) (hla : L g ≠ [] → tf (rl_la 0 (L g)) = g)
    (TP : tr_TP L tf cu g c L' tf' cu' x i)
    (hh : ∀ y, y < 448 → he' y = if hp_mv he (bp s) (4 * x + i) 3 y = bp s then 4 * x + i else hp_mv he (bp s) (4 * x + i) 3 y) :
    hp_H c bk bo fc vl E Ro rc (hp_rr rc (bp s) (4 * x + i) ra) (na_u (na_u sr (4 * x + i) (sr (bp s))) (bp s) 0) (na_u (na_u fo (4 * x + i) (fo (bp s))) (bp s) 0) (upd (upd va (4 * x + i) (va (bp s))) (bp s) 0) (na_u (na_u so (4 * x + i) s) (bp s) 0) he' (na_u bp s (4 * x + i)) tf' cu' := by
  obtain ⟨h1, h2, h3, h4, h5⟩ := H
  obtain ⟨t1, t2, t3, t4, t5⟩ := TP
  obtain ⟨o1, o2, o3, o4, o5, o6, o7⟩ := h1 s hs h0
  have sp : sr (bp s) ≠ 0 := by rw [o3]; exact (hB s hs).1
  have sq : sr (4 * x + i) = 0 := by
    apply Classical.byContradiction
    intro q
    obtain ⟨q1, q2, q3, q4⟩ := h2 (4 * x + i) (by omega) q
    have e1 : (4 * x + i) / 4 = x := by omega
    have e2 : (4 * x + i) % 4 = i := by omega
    rw [e1] at q3 q4
    rw [e2] at q4
    rcases t5 with t5 | t5
    · omega
    · exact q3 t5.1
  have hne : bp s ≠ 4 * x + i := fun e => by omega
  have inj : ∀ t, t < bk → bp t ≠ 0 → t ≠ s → bp t ≠ bp s ∧ bp t ≠ 4 * x + i := fun t ht ht0 hts => by
    obtain ⟨p1, p2, p3, p4, p5⟩ := h1 t ht ht0
    refine ⟨fun e => hts ?_, fun e => ?_⟩
    · rw [e, o4] at p4; exact p4.symm
    · rw [e, sq] at p3
      exact (hB t ht).1 p3.symm
  have plm : ∀ e, hp_T bk bp e → (if hp_pl bp e = bp s then 4 * x + i else hp_pl bp e) = hp_pl (na_u bp s (4 * x + i)) e ∧ hp_T bk (na_u bp s (4 * x + i)) e := fun e he => by
    cases e with
    | zero => exact ⟨if_neg (fun z => h0 z.symm), Or.inl rfl⟩
    | succ t =>
      rcases he with he | ⟨g1, g2⟩
      · omega
      · have g2' : bp t ≠ 0 := g2
        rw [hp_1, hp_1]
        by_cases z : t = s
        · subst z
          rw [if_pos rfl, na_us]
          refine ⟨rfl, Or.inr ⟨g1, ?_⟩⟩
          show na_u bp t _ t ≠ 0
          rw [na_us]; omega
        · rw [if_neg (inj t (by omega) g2' z).1, na_un z]
          refine ⟨rfl, Or.inr ⟨g1, ?_⟩⟩
          show na_u bp s _ t ≠ 0
          rw [na_un z]; exact g2'
  refine ⟨fun t ht ht0 => ?_, fun p hp hp0 => ?_, fun y hy hy0 => ?_, fun r hr => ?_, fun y y1 y2 y3 y4 => ?_⟩
  · by_cases z : t = s
    · subst z
      rw [na_us]
      have hn : 4 * x + i ≠ bp t := fun e => hne e.symm
      refine ⟨by omega, by omega, ?_, ?_, ?_, ?_, fun f hf => ?_⟩
      · rw [na_un hn, na_us, o3]
      · rw [na_un hn, na_us]
      · rw [na_un hn, na_us, o5]
      · rw [pk_un hn, pk_us, o6]
      · obtain ⟨v1, v2⟩ := o7 f hf
        obtain ⟨w1, w2⟩ := plm _ v2
        refine ⟨?_, w2⟩
        have e3 : (4 * (4 * x + i) + f) % 4 = f := by omega
        have em : hp_mv he (bp t) (4 * x + i) 3 (4 * (4 * x + i) + f) = he (4 * bp t + f) := by
          rw [hp_mvs hne 3 (by omega), if_pos (by omega), e3]
        rw [hh _ (by omega), em, v1]
        exact w1
    · rw [na_un z] at ht0 ⊢
      obtain ⟨p1, p2, p3, p4, p5, p6, p7⟩ := h1 t ht ht0
      obtain ⟨i1, i2⟩ := inj t ht ht0 z
      refine ⟨p1, p2, ?_, ?_, ?_, ?_, fun f hf => ?_⟩
      · rw [na_un i1, na_un i2, p3]
      · rw [na_un i1, na_un i2, p4]
      · rw [na_un i1, na_un i2, p5]
      · rw [pk_un i1, pk_un i2, p6]
      · obtain ⟨v1, v2⟩ := p7 f hf
        obtain ⟨w1, w2⟩ := plm _ v2
        refine ⟨?_, w2⟩
        have em : hp_mv he (bp s) (4 * x + i) 3 (4 * bp t + f) = he (4 * bp t + f) := by
          rw [hp_mvs hne 3 (by omega), if_neg (by omega), if_neg (by omega)]
        rw [hh _ (by omega), em, v1]
        exact w1
  · by_cases z : p = bp s
    · rw [z, na_us] at hp0; exact absurd rfl hp0
    · rw [na_un z] at hp0 ⊢
      by_cases y : p = 4 * x + i
      · rw [y, na_us]
        have e1 : (4 * x + i) / 4 = x := by omega
        have e2 : (4 * x + i) % 4 = i := by omega
        rw [e1, e2]
        refine ⟨hs, na_us, ?_⟩
        rcases t5 with ⟨-, u2, u3, u4, u5, u6⟩ | ⟨u1, u2, u3, u4, u5, u6⟩
        · refine ⟨?_, ?_⟩
          · rw [u2, u4, hla u3]; omega
          · rw [u6, na_us]; omega
        · rw [u5, u6, na_us, na_us]; omega
      · rw [na_un y] at hp0 ⊢
        obtain ⟨q1, q2, q3, q4⟩ := h2 p hp hp0
        have hso : so p ≠ s := fun e => z (by rw [← q2, e])
        refine ⟨q1, by rw [na_un hso]; exact q2, ?_⟩
        rcases t5 with ⟨-, u2, u3, u4, u5, u6⟩ | ⟨u1, u2, u3, u4, u5, u6⟩
        · rw [u2, u6]
          refine ⟨q3, ?_⟩
          by_cases w : p / 4 = x
          · rw [w, na_us]; rw [w] at q4; omega
          · rw [na_un w]; exact q4
        · have w : p / 4 ≠ x := fun w => q3 (w ▸ u1)
          rw [u5, u6, na_un w, na_un w]
          exact ⟨q3, q4⟩
  · rw [hh y hy] at hy0
    have k1 : hp_mv he (bp s) (4 * x + i) 3 y ≠ 0 := fun e => by
      rw [e, if_neg (fun z => h0 z.symm)] at hy0
      exact hy0 rfl
    rw [hp_mvs hne 3 (by omega)] at k1
    by_cases a : y / 4 = 4 * x + i ∧ y % 4 < 3
    · refine ⟨a.2, ?_⟩
      rw [a.1, na_un (fun e => hne e.symm), na_us]
      exact sp
    · rw [if_neg a] at k1
      by_cases b : y / 4 = bp s ∧ y % 4 < 3
      · rw [if_pos b] at k1; exact absurd rfl k1
      · rw [if_neg b] at k1
        obtain ⟨m1, m2⟩ := h3 y hy k1
        refine ⟨m1, ?_⟩
        rw [na_un (fun e => b ⟨e, m1⟩), na_un (fun e => a ⟨e, m1⟩)]
        exact m2
  · obtain ⟨m1, m2⟩ := h4 r hr
    obtain ⟨w1, w2⟩ := plm _ m2
    refine ⟨?_, w2⟩
    rw [← w1, ← m1]
    show (if r < rc ∧ ra r = bp s then 4 * x + i else ra r) = _
    by_cases z : ra r = bp s
    · rw [if_pos ⟨hr, z⟩, if_pos z]
    · rw [if_neg (fun q => z q.2), if_neg z]
  · have old : ∀ j, j < 4 → y ≠ c → 4 * y + j ≠ bp s := fun j hj hy e => by omega
    rcases t5 with ⟨-, u2, u3, u4, u5, u6⟩ | ⟨u1, u2, u3, u4, u5, u6⟩
    · rw [u2] at y3
      obtain ⟨k1, k2⟩ := h5 y y1 y2 y3 y4
      have k3 := ha4 y
      rw [u6]
      by_cases w : y = x
      · subst w
        rw [na_us]
        refine ⟨by omega, fun j hj => ?_⟩
        rw [na_un (old j (by omega) y4)]
        by_cases v : j = i
        · rw [v, na_us]; exact sp
        · rw [na_un (by omega)]
          exact k2 j (by omega)
      · rw [na_un w]
        refine ⟨k1, fun j hj => ?_⟩
        rw [na_un (old j (by omega) y4), na_un (by omega)]
        exact k2 j hj
    · rw [u5] at y3
      rw [u6]
      by_cases w : y = x
      · subst w
        rw [na_us]
        refine ⟨by omega, fun j hj => ?_⟩
        have : j = i := by omega
        rw [na_un (old j (by omega) y4), this, na_us]
        exact sp
      · rw [na_un w] at y3 ⊢
        obtain ⟨k1, k2⟩ := h5 y y1 y2 y3 y4
        have k3 := ha4 y
        refine ⟨k1, fun j hj => ?_⟩
        rw [na_un (old j (by omega) y4), na_un (by omega)]
        exact k2 j hj
end HEAP
end
section
/-! redirect, move -/
section MV
variable {zk1 zk2 zk3 zk4 zrc zmb zft zlt ztc zbk zsk zqc zmt zrl zst : Int32} {zra zsr zfo zva zso zhe zrn zrp ztf zcn zcu zrh zth ztt ztk zqu zbo zbp zsl : Nat → Int32}
def rd_I (he0 he : Nat → Nat) (p q : Nat) : Prop := ∀ y, he y = he0 y ∨ (he0 y = p ∧ he y = q)
theorem rd_s {he0 he : Nat → Nat} {p q x : Nat} (h : rd_I he0 he p q) (hx : he x = p) : rd_I he0 (na_u he x q) p q := by
  intro y
  by_cases z : y = x
  · subst z
    rw [na_us]
    rcases h y with e | e
    · exact Or.inr ⟨e.symm.trans hx, rfl⟩
    · exact Or.inr ⟨e.1, rfl⟩
  · rw [na_un z]; exact h y
theorem rd_109 {post : SX → Prop} {he0 : Nat → Nat} {p q c : Nat} (hp : p < 112) (hq : q < 112) (hc : 1 ≤ c) (hc' : c < 28) (hne : p ≠ q)
    (k : ∀ he R rn rp rh, rl_RI he R rn rp rh → rd_I he0 he p q → (∀ y, y < 448 → he y ≠ p) → post (zk1, zk2, zk3, zk4, zrc, zmb, zft, zlt, ztc, zbk, zsk, zqc, zmt, zrl, zst, zra, zsr, zfo, zva, zso, na_A he, na_A rn, na_A rp, ztf, zcn, zcu, na_A rh, zth, ztt, ztk, zqu, zbo, zbp, zsl)) :
    ∀ n j he R rn rp rh, j ≤ 16 → 16 - j < n → rl_RI he R rn rp rh → rd_I he0 he p q → (∀ y, y < 448 → he y = p → y / 16 = c ∧ 16 * c + j ≤ y) → wX_redirect_109 post (nI p) (nI q) (nI (16 * c)) n (nI j) zk1 zk2 zk3 zk4 zrc zmb zft zlt ztc zbk zsk zqc zmt zrl zst zra zsr zfo zva zso (na_A he) (na_A rn) (na_A rp) ztf zcn zcu (na_A rh) zth ztt ztk zqu zbo zbp zsl := by
  intro n
  induction n with
  | zero => intro j he R rn rp rh _ h; omega
  | succ n ih =>
    intro j he R rn rp rh h1 h2 h3 h4 h5
    rw [wX_redirect_109]
    refine pk_le 16 j (fun z => k he R rn rp rh h3 h4 (fun y hy e => ?_)) (fun z => ?_)
    · have := h5 y hy e
      omega
    · rw [nI_add]
      refine ⟨vp_in_nI (by omega) (by omega), ?_⟩
      rw [na_rd (by omega)]
      have hb := h3.2.1 (16 * c + j)
      by_cases w : he (16 * c + j) = p
      · refine br_t (congrArg nI w) (lk_set h3 (by omega) (by omega) hq (fun rn' rp' rh' H => nm_r (nI_1 j) (ih (j + 1) _ _ rn' rp' rh' (by omega) (by omega) H (rd_s h4 w) (fun y hy e => ?_))))
        by_cases v : y = 16 * c + j
        · rw [v, na_us] at e
          exact absurd e.symm hne
        · rw [na_un v] at e
          have := h5 y hy e
          omega
      · refine br_f (fun e => w ((nI_eq (by omega) (by omega)).mp e)) (nm_r (nI_1 j) (ih (j + 1) _ _ _ _ _ (by omega) (by omega) h3 h4 (fun y hy e => ?_)))
        have := h5 y hy e
        have v : y ≠ 16 * c + j := fun v => w (v ▸ e)
        omega
theorem rd_48 {post : SX → Prop} {he0 : Nat → Nat} {p q c : Nat} (hp : p < 112) (hq : q < 112) (hc : 1 ≤ c) (hc' : c < 28) (hpc : p / 4 = c) (hqc : q / 4 ≠ c)
    (k : ∀ he R rn rp rh, rl_RI he R rn rp rh → rd_I he0 he p q → (∀ y, y < 448 → he y = p → y / 16 = c) → ∃ n, wX_redirect_109 post (nI p) (nI q) (nI (16 * c)) n (nI 0) zk1 zk2 zk3 zk4 zrc zmb zft zlt ztc zbk zsk zqc zmt zrl zst zra zsr zfo zva zso (na_A he) (na_A rn) (na_A rp) ztf zcn zcu (na_A rh) zth ztt ztk zqu zbo zbp zsl) :
    ∀ (rest pre : List Nat) (n i : Nat) (he : Nat → Nat) (R : Nat → List Nat) (rn rp rh : Nat → Nat), rl_RI he R rn rp rh → R c = pre ++ rest → (∀ y, y ∈ pre → he y ≠ p) → rd_I he0 he p q → i + rest.length ≤ 448 → rest.length < n →
      wX_redirect_48 post (nI p) (nI q) (nI c) n (nI (rest.headD 0)) (nI i) zk1 zk2 zk3 zk4 zrc zmb zft zlt ztc zbk zsk zqc zmt zrl zst zra zsr zfo zva zso (na_A he) (na_A rn) (na_A rp) ztf zcn zcu (na_A rh) zth ztt ztk zqu zbo zbp zsl := by
  intro rest
  induction rest with
  | nil =>
    intro pre n i he R rn rp rh h1 h2 h3 h4 h5 h6
    obtain ⟨n, rfl⟩ : ∃ m, n = m + 1 := ⟨n - 1, by omega⟩
    rw [wX_redirect_48]
    refine br_t nI_0 (nm_r (na_m16 c) (k he R rn rp rh h1 h4 (fun y hy e => ?_)))
    apply Classical.byContradiction
    intro w
    have : y ∈ R c := (h1.2.2.2 c y hc').mpr ⟨hy, by omega, by rw [e]; exact hpc, w⟩
    rw [h2, List.append_nil] at this
    exact h3 y this e
  | cons x xs ih =>
    intro pre n i he R rn rp rh h1 h2 h3 h4 h5 h6
    obtain ⟨n, rfl⟩ : ∃ m, n = m + 1 := ⟨n - 1, by omega⟩
    have hm : x ∈ R c := by rw [h2]; exact List.mem_append_right _ List.mem_cons_self
    obtain ⟨m1, m2, m3, m4⟩ := (h1.2.2.2 c x hc').mp hm
    have m5 : 16 ≤ x := by
      apply Nat.le_of_not_lt
      intro w
      exact m2 (h1.1 x w)
    have hb := h1.2.1 x
    obtain ⟨b1, b2, b3⟩ := h1.2.2.1 c hc'
    have b2' := b2
    have b3' := b3
    rw [h2] at b2' b3'
    obtain ⟨-, -, s4, -⟩ := (rl_app pre 0).mp b2'
    rw [List.length_cons] at h5 h6
    rw [wX_redirect_48]
    have wv : vp_in (nI x) 448 := vp_in_nI m1 (by omega)
    refine br_f (nI_ne0 (n := x) (by omega) (by omega)) (br_f (nI_ge (b := 448) (by omega) (by omega)) ⟨wv, nm_r (e' := nI (xs.headD 0)) (by show na_A rn (nI x).toNatClampNeg = _; rw [na_rd (by omega), s4]) ⟨wv, ?_⟩⟩)
    show ((na_A he (nI x).toNatClampNeg = nI p → _) ∧ (¬ na_A he (nI x).toNatClampNeg = nI p → _))
    rw [na_rd (by omega)]
    have n3 := List.nodup_append.mp b3'
    have n1 : x ∉ pre := fun z => n3.2.2 x z x List.mem_cons_self rfl
    by_cases w : he x = p
    · refine br_t (congrArg nI w) (lk_set h1 m5 m1 hq (fun rn' rp' rh' H => nm_r (nI_1 i) (ih pre n (i + 1) _ _ rn' rp' rh' H ?_ (fun y hy => ?_) (rd_s h4 w) (by omega) (by omega))))
      · show (if q ≠ 0 ∧ q / 4 ≠ x / 16 ∧ c = q / 4 then x :: rl_F R x c else rl_F R x c) = _
        rw [if_neg (fun z => hqc z.2.2.symm)]
        show (R c).filter _ = _
        rw [h2, rl_fsp b3']
      · have yx : y ≠ x := fun z => n1 (z ▸ hy)
        show na_u he x q y ≠ p
        rw [na_un yx]
        exact h3 y hy
    · refine br_f (fun e => w ((nI_eq (by omega) (by omega)).mp e)) (nm_r (nI_1 i) (ih (pre ++ [x]) n (i + 1) _ _ _ _ _ h1 (by rw [h2, List.append_assoc]; rfl) (fun y hy => ?_) h4 (by omega) (by omega)))
      rcases List.mem_append.mp hy with y1 | y1
      · exact h3 y y1
      · rw [List.mem_singleton] at y1
        rw [y1]; exact w
theorem hp_rr1 {i p q : Nat} {ra : Nat → Nat} (h : ra i = p) : na_u (hp_rr i p q ra) i q = hp_rr (i + 1) p q ra := by
  funext r
  show (if r = i then q else if r < i ∧ ra r = p then q else ra r) = if r < i + 1 ∧ ra r = p then q else ra r
  by_cases z : r = i
  · rw [if_pos z, if_pos ⟨by omega, by rw [z]; exact h⟩]
  · rw [if_neg z]
    by_cases w : r < i ∧ ra r = p
    · rw [if_pos w, if_pos ⟨by omega, w.2⟩]
    · rw [if_neg w, if_neg (fun v => w ⟨by omega, v.2⟩)]
theorem hp_rr2 {i p q : Nat} {ra : Nat → Nat} (h : ra i ≠ p) : hp_rr i p q ra = hp_rr (i + 1) p q ra := by
  funext r
  show (if r < i ∧ ra r = p then q else ra r) = if r < i + 1 ∧ ra r = p then q else ra r
  by_cases w : r < i ∧ ra r = p
  · rw [if_pos w, if_pos ⟨by omega, w.2⟩]
  · rw [if_neg w, if_neg (fun v => w ⟨?_, v.2⟩)]
    have : r ≠ i := fun e => h (e ▸ v.2)
    omega
theorem hp_rr0 {p q : Nat} {ra : Nat → Nat} : hp_rr 0 p q ra = ra := by
  funext r
  exact if_neg (fun h => absurd h.1 (Nat.not_lt_zero r))
theorem hp_rri {i p q : Nat} {ra : Nat → Nat} : hp_rr i p q ra i = ra i := if_neg (fun h => absurd h.1 (Nat.lt_irrefl i))
theorem rd_2 {post : SX → Prop} {ra he rn rp rh : Nat → Nat} {rc p q : Nat} (hp : p < 112) (hrc : rc ≤ 8) (hra : ∀ r, r < rc → ra r < 112) (hpc : p / 4 < 28)
    (k : ∃ n, wX_redirect_48 post (nI p) (nI q) (nI (p / 4)) n (nI (rh (p / 4))) (nI 0) zk1 zk2 zk3 zk4 (nI rc) zmb zft zlt ztc zbk zsk zqc zmt zrl zst (na_A (hp_rr rc p q ra)) zsr zfo zva zso (na_A he) (na_A rn) (na_A rp) ztf zcn zcu (na_A rh) zth ztt ztk zqu zbo zbp zsl) :
    ∀ n i, i ≤ rc → rc - i < n → wX_redirect_2 post (nI p) (nI q) zk1 zk2 zk3 zk4 (nI rc) zmb zft zlt ztc zbk zsk zqc zmt zrl zst n (nI i) (na_A (hp_rr i p q ra)) zsr zfo zva zso (na_A he) (na_A rn) (na_A rp) ztf zcn zcu (na_A rh) zth ztt ztk zqu zbo zbp zsl := by
  intro n
  induction n with
  | zero => intro i _ h; omega
  | succ n ih =>
    intro i h1 h2
    rw [wX_redirect_2]
    refine pk_le rc i (fun z => ?_) (fun z => ?_)
    · have : i = rc := by omega
      subst this
      exact nm_r (na_s2 (by omega)) ⟨vp_in_nI hpc (by omega), nm_r (na_rd (by omega)) k⟩
    · have w : vp_in (nI i) 8 := vp_in_nI (by omega) (by omega)
      refine ⟨w, ?_⟩
      rw [na_rd (by omega), hp_rri]
      have hb := hra i z
      by_cases y : ra i = p
      · exact br_t (congrArg nI y) ⟨w, nm_r ((na_wr (by omega)).trans (congrArg na_A (hp_rr1 y))) (nm_r (nI_1 i) (ih (i + 1) (by omega) (by omega)))⟩
      · have := ih (i + 1) (by omega) (by omega)
        rw [← hp_rr2 y] at this
        exact br_f (fun e => y ((nI_eq (by omega) (by omega)).mp e)) (nm_r (nI_1 i) this)
/-- redirect: all holders of p hold q -/
theorem rd_all {post : SX → Prop} {ra he rn rp rh : Nat → Nat} {R : Nat → List Nat} {rc p q : Nat} (h : rl_RI he R rn rp rh) (hp0 : 4 ≤ p) (hp : p < 112) (hq : q < 112) (hqc : q / 4 ≠ p / 4) (hrc : rc ≤ 8) (hra : ∀ r, r < rc → ra r < 112)
    (k : ∀ he' R' rn' rp' rh', rl_RI he' R' rn' rp' rh' → (∀ y, y < 448 → he' y = if he y = p then q else he y) → post (zk1, zk2, zk3, zk4, nI rc, zmb, zft, zlt, ztc, zbk, zsk, zqc, zmt, zrl, zst, na_A (hp_rr rc p q ra), zsr, zfo, zva, zso, na_A he', na_A rn', na_A rp', ztf, zcn, zcu, na_A rh', zth, ztt, ztk, zqu, zbo, zbp, zsl)) :
    wpX_redirect post (zk1, zk2, zk3, zk4, nI rc, zmb, zft, zlt, ztc, zbk, zsk, zqc, zmt, zrl, zst, na_A ra, zsr, zfo, zva, zso, na_A he, na_A rn, na_A rp, ztf, zcn, zcu, na_A rh, zth, ztt, ztk, zqu, zbo, zbp, zsl) (nI p) (nI q) := by
  have hpc : p / 4 < 28 := by omega
  have hne : p ≠ q := fun e => hqc (by rw [e])
  obtain ⟨b1, b2, b3⟩ := h.2.2.1 (p / 4) hpc
  have len : (R (p / 4)).length ≤ 448 := na_len b3 (fun x hx => ((h.2.2.2 _ x hpc).mp hx).1)
  have := rd_2 (post := post) (ra := ra) (he := he) (rn := rn) (rp := rp) (rh := rh) (rc := rc) (p := p) (q := q) (zk1 := zk1) (zk2 := zk2) (zk3 := zk3) (zk4 := zk4) (zmb := zmb) (zft := zft) (zlt := zlt) (ztc := ztc) (zbk := zbk) (zsk := zsk) (zqc := zqc) (zmt := zmt) (zrl := zrl) (zst := zst) (zsr := zsr) (zfo := zfo) (zva := zva) (zso := zso) (ztf := ztf) (zcn := zcn) (zcu := zcu) (zth := zth) (ztt := ztt) (ztk := ztk) (zqu := zqu) (zbo := zbo) (zbp := zbp) (zsl := zsl) hp hrc hra hpc ⟨449, by
    rw [b1]
    refine rd_48 (he0 := he) hp hq (by omega) hpc rfl hqc (fun he1 R1 rn1 rp1 rh1 H1 H2 H3 => ⟨17, rd_109 (he0 := he) hp hq (c := p / 4) (by omega) hpc hne (fun he2 R2 rn2 rp2 rh2 G1 G2 G3 => k he2 R2 rn2 rp2 rh2 G1 (fun y hy => ?_)) 17 0 he1 R1 rn1 rp1 rh1 (by omega) (by omega) H1 H2 (fun y hy e => ⟨H3 y hy e, ?_⟩)⟩) (R (p / 4)) [] 449 0 he R rn rp rh h rfl (fun y hy => nomatch hy) (fun y => Or.inl rfl) (by omega) (by omega)
    · rcases G2 y with e | e
      · by_cases z : he y = p
        · exact absurd (e.trans z) (G3 y hy)
        · rw [if_neg z]; exact e
      · rw [if_pos e.1]; exact e.2
    · have := H3 y hy e
      omega⟩ 9 0 (by omega) (by omega)
  rw [hp_rr0] at this
  exact ⟨9, this⟩
theorem cp_clear {post : SX → Prop} {sr fo so : Nat → Nat} {p : Nat} (hp : p < 112) (k : post (zk1, zk2, zk3, zk4, zrc, zmb, zft, zlt, ztc, zbk, zsk, zqc, zmt, zrl, zst, zra, na_A (na_u sr p 0), na_A (na_u fo p 0), upd zva p 0, na_A (na_u so p 0), zhe, zrn, zrp, ztf, zcn, zcu, zrh, zth, ztt, ztk, zqu, zbo, zbp, zsl)) : wpX_clearPlace post (zk1, zk2, zk3, zk4, zrc, zmb, zft, zlt, ztc, zbk, zsk, zqc, zmt, zrl, zst, zra, na_A sr, na_A fo, zva, na_A so, zhe, zrn, zrp, ztf, zcn, zcu, zrh, zth, ztt, ztk, zqu, zbo, zbp, zsl) (nI p) := by
  have w : vp_in (nI p) 112 := vp_in_nI hp (by omega)
  exact ⟨w, nm_r (na_wr (v := 0) (by omega)) ⟨w, nm_r (na_wr (v := 0) (by omega)) ⟨w, nm_r (na_ww (by omega)) ⟨w, nm_r (na_wr (v := 0) (by omega)) k⟩⟩⟩⟩
theorem mv_80 {post : Int32 → SX → Prop} {ra sr fo so he : Nat → Nat} {rc p q : Nat} (hp0 : 4 ≤ p) (hp : p < 112) (hq0 : 4 ≤ q) (hq : q < 112) (hqc : q / 4 ≠ p / 4) (hrc : rc ≤ 8) (hra : ∀ r, r < rc → ra r < 112)
    (k : ∀ he' R' rn' rp' rh', rl_RI he' R' rn' rp' rh' → (∀ y, y < 448 → he' y = if hp_mv he p q 3 y = p then q else hp_mv he p q 3 y) → post (nI q) (zk1, zk2, zk3, zk4, nI rc, zmb, zft, zlt, ztc, zbk, zsk, zqc, zmt, zrl, zst, na_A (hp_rr rc p q ra), na_A (na_u sr p 0), na_A (na_u fo p 0), upd zva p 0, na_A (na_u so p 0), na_A he', na_A rn', na_A rp', ztf, zcn, zcu, na_A rh', zth, ztt, ztk, zqu, zbo, zbp, zsl)) :
    ∀ d f n R rn rp rh, f + d = 3 → d < n → rl_RI (hp_mv he p q f) R rn rp rh → wX_move_80 post (nI p) (nI q) n (nI f) zk1 zk2 zk3 zk4 (nI rc) zmb zft zlt ztc zbk zsk zqc zmt zrl zst (na_A ra) (na_A sr) (na_A fo) zva (na_A so) (na_A (hp_mv he p q f)) (na_A rn) (na_A rp) ztf zcn zcu (na_A rh) zth ztt ztk zqu zbo zbp zsl := by
  intro d
  induction d with
  | zero =>
    intro f n R rn rp rh h1 h2 h3
    obtain ⟨n, rfl⟩ : ∃ m, n = m + 1 := ⟨n - 1, by omega⟩
    have : f = 3 := by omega
    subst this
    rw [wX_move_80]
    exact br_t (nI_le (a := 3) (b := 3) (by omega) (by omega)) (rd_all h3 hp0 hp hq hqc hrc hra (fun he' R' rn' rp' rh' H1 H2 => cp_clear hp (k he' R' rn' rp' rh' H1 H2)))
  | succ d ih =>
    intro f n R rn rp rh h1 h2 h3
    obtain ⟨n, rfl⟩ : ∃ m, n = m + 1 := ⟨n - 1, by omega⟩
    have hb := h3.2.1 (4 * p + f)
    rw [wX_move_80]
    refine br_f (nI_ge (b := 3) (by omega) (by omega)) ?_
    rw [na_m4, na_m4]
    refine ⟨vp_in_nI (by omega) (by omega), nm_r (na_rd (by omega)) ?_⟩
    refine lk_set (t := 0) h3 (by omega) (by omega) (by omega) (fun rn1 rp1 rh1 H1 => ?_)
    refine lk_set H1 (by omega) (by omega) hb (fun rn2 rp2 rh2 H2 => nm_r (nI_1 f) (ih (f + 1) n _ rn2 rp2 rh2 (by omega) (by omega) H2))
end MV
section MV2
variable {k1 k2 k3 k4 rl st : Int32} {rc mb ft lt tc bk sk qc mt : Nat} {ra sr fo so he rn rp tf cn cu rh th tt tk bo bp : Nat → Nat} {va qu sl : Nat → Int32} {c s g : Nat} {fc : Nat → Nat} {vl : Nat → Int32} {E : Nat → Nat → Nat} {Ro : Nat → Nat} {L R : Nat → List Nat}
theorem hp_rab (H : hp_H c bk bo fc vl E Ro rc ra sr fo va so he bp tf cu) : ∀ r, r < rc → ra r < 112 := by
  intro r hr
  obtain ⟨e, t⟩ := H.2.2.2.1 r hr
  rw [e]
  rcases t with t | ⟨t1, t2⟩
  · rw [t, hp_0]; omega
  · by_cases z : Ro r = 0
    · rw [z, hp_0]; omega
    · have : hp_pl bp (Ro r) = bp (Ro r - 1) := if_neg z
      rw [this]
      exact (H.1 (Ro r - 1) (by omega) t2).2.1
/-- one object moved to the end of train g, not into its old car -/
theorem mv_move {post : Int32 → SX → Prop} (H : hp_H c bk bo fc vl E Ro rc ra sr fo va so he bp tf cu) (TI : tr_TI 0 L tf cn cu th tt tk) (RI : rl_RI he R rn rp rh) (hB : ∀ s, s < bk → bo s ≠ 0 ∧ bo s < 2 ^ 31) (hk : bk ≤ 24) (hrc : rc ≤ 8) (hs : s < bk) (h0 : bp s ≠ 0) (hc : bp s / 4 = c) (hg : 1 ≤ g) (hg' : g ≤ 5)
    (K : ∀ ra' sr' fo' va' so' he' R' rn' rp' rh' L' tf' cn' cu' th' tt' tk' x i, hp_H c bk bo fc vl E Ro rc ra' sr' fo' va' so' he' (na_u bp s (4 * x + i)) tf' cu' → tr_TI 0 L' tf' cn' cu' th' tt' tk' → rl_RI he' R' rn' rp' rh' → tr_TP L tf cu g c L' tf' cu' x i →
      post (nI (4 * x + i)) (k1, k2, k3, k4, nI rc, nI mb, nI ft, nI lt, nI tc, nI bk, nI sk, nI qc, nI mt, rl, st, na_A ra', na_A sr', na_A fo', va', na_A so', na_A he', na_A rn', na_A rp', na_A tf', na_A cn', na_A cu', na_A rh', na_A th', na_A tt', na_A tk', qu, na_A bo, na_A (na_u bp s (4 * x + i)), sl)) :
    wpX_move post (k1, k2, k3, k4, nI rc, nI mb, nI ft, nI lt, nI tc, nI bk, nI sk, nI qc, nI mt, rl, st, na_A ra, na_A sr, na_A fo, va, na_A so, na_A he, na_A rn, na_A rp, na_A tf, na_A cn, na_A cu, na_A rh, na_A th, na_A tt, na_A tk, qu, na_A bo, na_A bp, sl) (nI (bp s)) (nI g) := by
  obtain ⟨o1, o2, o3, o4, o5, o6, o7⟩ := H.1 s hs h0
  have sp : sr (bp s) ≠ 0 := by rw [o3]; exact (hB s hs).1
  have tc0 : tf c ≠ 0 := by
    have := (H.2.1 (bp s) o2 sp).2.2.1
    rw [hc] at this
    exact this
  have hfree := hp_free H hk
  have hra := hp_rab H
  refine nm_r (na_s2 (by omega)) ?_
  rw [hc]
  refine tr_take TI hg hg' (Or.inr tc0) (by omega) hfree (fun L' tf' cn' cu' th' tt' tk' x i TI' TP => ?_)
  have t1 := TP.1
  have t2 := TP.2.1
  have t3 := TP.2.2.1
  have t4 := TP.2.2.2.1
  have wp : vp_in (nI (bp s)) 112 := vp_in_nI o2 (by omega)
  have wq : vp_in (nI (4 * x + i)) 112 := vp_in_nI (by omega) (by omega)
  have eso : na_A so (nI (bp s)).toNatClampNeg = nI s := by rw [na_rd (by omega), o4]
  refine ⟨wp, nm_r eso ⟨wp, wq, nm_r (e' := na_A (na_u sr (4 * x + i) (sr (bp s)))) (by rw [na_rd (by omega), na_wr (by omega)]) ⟨wp, wq, nm_r (e' := na_A (na_u fo (4 * x + i) (fo (bp s)))) (by rw [na_rd (by omega), na_wr (by omega)]) ⟨wp, wq, nm_r (e' := upd va (4 * x + i) (va (bp s))) (by rw [nI_clamp (n := bp s) (by omega), nI_clamp (n := 4 * x + i) (by omega)]) ⟨wq, nm_r (na_wr (by omega)) ⟨vp_in_nI (by omega) (by omega), nm_r (na_wr (by omega)) ⟨4, ?_⟩⟩⟩⟩⟩⟩⟩
  refine mv_80 (he := he) o1 o2 (by omega) (by omega) (by omega) hrc hra (fun he' R' rn' rp' rh' H1 H2 => K _ _ _ _ _ he' R' rn' rp' rh' L' tf' cn' cu' th' tt' tk' x i (hp_move H hB hs h0 hc TI.2.2.2 hg (fun hl => ((TI.2.1 g _ hg hg').mp (rl_lam _ 0 hl)).2.2) TP H2) TI' H1 TP) 3 0 4 R rn rp rh (by omega) (by omega) RI
end MV2
end
section
/-! evacuate -/
section EV
def mv_W (c bk : Nat) (bo fc : Nat → Nat) (vl : Nat → Int32) (E : Nat → Nat → Nat) (Ro : Nat → Nat) (rc : Nat) (ra sr fo : Nat → Nat) (va : Nat → Int32) (so he : Nat → Nat) (R : Nat → List Nat) (rn rp rh : Nat → Nat) (L : Nat → List Nat) (tf cn cu th tt tk bp : Nat → Nat) : Prop :=
  hp_H c bk bo fc vl E Ro rc ra sr fo va so he bp tf cu ∧ tr_TI 0 L tf cn cu th tt tk ∧ rl_RI he R rn rp rh ∧ (∀ s, s < bk → bo s ≠ 0 ∧ bo s < 2 ^ 31) ∧ bk ≤ 24 ∧ rc ≤ 8
variable {k1 k2 k3 k4 rl st : Int32} {rc mb ft lt tc bk sk qc mt : Nat} {ra sr fo so he rn rp tf cn cu rh th tt tk bo bp : Nat → Nat} {va qu sl : Nat → Int32} {c s g : Nat} {fc : Nat → Nat} {vl : Nat → Int32} {E : Nat → Nat → Nat} {Ro : Nat → Nat} {L R : Nat → List Nat}
theorem mv_mv {post : Int32 → SX → Prop} (W : mv_W c bk bo fc vl E Ro rc ra sr fo va so he R rn rp rh L tf cn cu th tt tk bp) (hs : s < bk) (h0 : bp s ≠ 0) (hc : bp s / 4 = c) (hg : 1 ≤ g) (hg' : g ≤ 5)
    (K : ∀ (ra' sr' fo' : Nat → Nat) (va' : Nat → Int32) (so' he' : Nat → Nat) (R' : Nat → List Nat) (rn' rp' rh' : Nat → Nat) (L' : Nat → List Nat) (tf' cn' cu' th' tt' tk' bp' : Nat → Nat), mv_W c bk bo fc vl E Ro rc ra' sr' fo' va' so' he' R' rn' rp' rh' L' tf' cn' cu' th' tt' tk' bp' → ∀ x i, tr_TP L tf cu g c L' tf' cu' x i → bp' = na_u bp s (4 * x + i) → post (nI (4 * x + i)) (k1, k2, k3, k4, nI rc, nI mb, nI ft, nI lt, nI tc, nI bk, nI sk, nI qc, nI mt, rl, st, na_A ra', na_A sr', na_A fo', va', na_A so', na_A he', na_A rn', na_A rp', na_A tf', na_A cn', na_A cu', na_A rh', na_A th', na_A tt', na_A tk', qu, na_A bo, na_A bp', sl)) : wpX_move post (k1, k2, k3, k4, nI rc, nI mb, nI ft, nI lt, nI tc, nI bk, nI sk, nI qc, nI mt, rl, st, na_A ra, na_A sr, na_A fo, va, na_A so, na_A he, na_A rn, na_A rp, na_A tf, na_A cn, na_A cu, na_A rh, na_A th, na_A tt, na_A tk, qu, na_A bo, na_A bp, sl) (nI (bp s)) (nI g) := by
  obtain ⟨H, TI, RI, hB, hk, hrc⟩ := W
  exact mv_move H TI RI hB hk hrc hs h0 hc hg hg' (fun ra' sr' fo' va' so' he' R' rn' rp' rh' L' tf' cn' cu' th' tt' tk' x i H' TI' RI' TP => K ra' sr' fo' va' so' he' R' rn' rp' rh' L' tf' cn' cu' th' tt' tk' _ ⟨H', TI', RI', hB, hk, hrc⟩ x i TP rfl)
/-- what the beats' mathematics needs of a state -/
def ab_W (c bk : Nat) (E : Nat → Nat → Nat) (bp : Nat → Nat) (L : Nat → List Nat) (tf cu : Nat → Nat) : Prop :=
  (∀ t, t < bk → bp t ≠ 0 → 4 ≤ bp t ∧ bp t < 112 ∧ tf (bp t / 4) ≠ 0 ∧ bp t % 4 < cu (bp t / 4) ∧ ∀ f, f < 3 → hp_T bk bp (E t f)) ∧
  (∀ t t', t < bk → t' < bk → bp t ≠ 0 → bp t = bp t' → t = t') ∧
  (∀ x, 1 ≤ x → x < 28 → tf x ≠ 0 → x ≠ c → 1 ≤ cu x ∧ ∀ i, i < cu x → ∃ t, t < bk ∧ bp t = 4 * x + i) ∧
  (∀ t x, 1 ≤ t → t ≤ 5 → (x ∈ L t ↔ 1 ≤ x ∧ x < 28 ∧ tf x = t)) ∧ (∀ t, 1 ≤ t → t ≤ 5 → (L t).Nodup) ∧ (∀ x, tf x ≤ 5) ∧ (∀ x, cu x ≤ 4)
theorem ab_of (W : mv_W c bk bo fc vl E Ro rc ra sr fo va so he R rn rp rh L tf cn cu th tt tk bp) : ab_W c bk E bp L tf cu := by
  obtain ⟨⟨h1, h2, h3, h4, h5⟩, ⟨a1, a2, a3, a4⟩, RI, hB, hk, hrc⟩ := W
  refine ⟨fun t ht t0 => ?_, fun t t' ht ht' t0 e => ?_, fun x x1 x2 x3 x4 => ?_, a2, fun t t1 t2 => (a1 t t1 t2).1, a3, a4⟩
  · obtain ⟨o1, o2, o3, o4, o5, o6, o7⟩ := h1 t ht t0
    obtain ⟨p1, p2, p3, p4⟩ := h2 (bp t) o2 (by rw [o3]; exact (hB t ht).1)
    exact ⟨o1, o2, p3, p4.1, fun f hf => (o7 f hf).2⟩
  · have e1 := (h1 t ht t0).2.2.2.1
    have e2 := (h1 t' ht' (e ▸ t0)).2.2.2.1
    rw [e, e2] at e1
    exact e1.symm
  · obtain ⟨k1, k2⟩ := h5 x x1 x2 x3 x4
    refine ⟨k1, fun i hi => ?_⟩
    have := a4 x
    obtain ⟨p1, p2, p3, p4⟩ := h2 (4 * x + i) (by omega) (k2 i hi)
    exact ⟨_, p1, p2⟩
theorem hp_plu {bp : Nat → Nat} {t v e c : Nat} (hv : v / 4 ≠ c) (h0 : 0 / 4 ≠ c ∨ True) (h : hp_pl bp e / 4 ≠ c ∨ e = t + 1) : hp_pl (na_u bp t v) e / 4 ≠ c := by
  cases e with
  | zero =>
    rcases h with h | h
    · exact h
    · omega
  | succ u =>
    rw [hp_1]
    by_cases z : u = t
    · rw [z, na_us]; exact hv
    · rw [na_un z]
      rcases h with h | h
      · exact h
      · omega
def ev_I (bk c g s : Nat) (E : Nat → Nat → Nat) (bp0 bp tf : Nat → Nat) (qu : Nat → Int32) (sv : Nat → Nat) (i k : Nat) : Prop :=
  k ≤ 4 ∧ i ≤ k ∧
  (∀ j, j < k → sv j < bk ∧ bp (sv j) ≠ 0 ∧ bp0 (sv j) ≠ 0 ∧ bp0 (sv j) / 4 = c ∧ bp (sv j) / 4 ≠ c ∧ tf (bp (sv j) / 4) = g ∧ qu j = nI (bp (sv j))) ∧
  (∀ j j', j < k → j' < k → sv j = sv j' → j = j') ∧
  (∀ t, t < bk → (bp t = bp0 t ∨ ∃ j, j < k ∧ sv j = t)) ∧
  (∀ j, j < i → ∀ f, f < 3 → hp_pl bp (E (sv j) f) / 4 ≠ c) ∧ (∃ j, j < k ∧ sv j = s)
theorem ev_lt {bp0 : Nat → Nat} {sv : Nat → Nat} {i k t : Nat} (hi0 : ∀ t t', t < bk → t' < bk → bp0 t ≠ 0 → bp0 t = bp0 t' → t = t') (I : ev_I bk c g s E bp0 bp tf qu sv i k) (ht : t < bk) (t0 : bp t ≠ 0) (tc : bp t / 4 = c) : k < 4 := by
  obtain ⟨i1, i2, i3, i4, i5, i6, i7⟩ := I
  have hsv : ∀ j, j < k → sv j ≠ t := fun j hj e => by
    obtain ⟨-, -, -, -, q, -⟩ := i3 j hj
    rw [e] at q
    exact q tc
  have hb : bp t = bp0 t := (i5 t ht).elim id (fun ⟨j, hj, e⟩ => absurd e (hsv j hj))
  have inj : ∀ j j', j < k + 1 → j' < k + 1 → na_u sv k t j = na_u sv k t j' → j = j' := fun j j' hj hj' e => by
    by_cases z : j = k
    · by_cases z' : j' = k
      · omega
      · rw [z, na_us, na_un z'] at e
        exact absurd e.symm (hsv j' (by omega))
    · by_cases z' : j' = k
      · rw [z', na_us, na_un z] at e
        exact absurd e (hsv j (by omega))
      · rw [na_un z, na_un z'] at e
        exact i4 j j' (by omega) (by omega) e
  have old : ∀ j, j < k + 1 → na_u sv k t j < bk ∧ bp0 (na_u sv k t j) ≠ 0 ∧ bp0 (na_u sv k t j) / 4 = c := fun j hj => by
    by_cases z : j = k
    · rw [z, na_us, ← hb]; exact ⟨ht, t0, tc⟩
    · rw [na_un z]
      obtain ⟨q1, q2, q3, q4, q5⟩ := i3 j (by omega)
      exact ⟨q1, q3, q4⟩
  have k4 : k + 1 ≤ 4 := by
    refine hp_ph (f := fun j => bp0 (na_u sv k t j) % 4) (fun j hj => Nat.mod_lt _ (by omega)) (fun j j' hj hj' e => inj j j' hj hj' ?_)
    obtain ⟨q1, q2, q3⟩ := old j hj
    obtain ⟨r1, r2, r3⟩ := old j' hj'
    have e' : bp0 (na_u sv k t j) % 4 = bp0 (na_u sv k t j') % 4 := e
    exact hi0 _ _ q1 r1 q2 (by omega)
  omega
theorem ev_step {bp0 tf' cu' : Nat → Nat} {L' : Nat → List Nat} {sv : Nat → Nat} {i k t x y : Nat} (hg : 1 ≤ g) (hi0 : ∀ t t', t < bk → t' < bk → bp0 t ≠ 0 → bp0 t = bp0 t' → t = t') (I : ev_I bk c g s E bp0 bp tf qu sv i k) (ht : t < bk) (t0 : bp t ≠ 0) (tc : bp t / 4 = c) (TP : tr_TP L tf cu g c L' tf' cu' x y) (hla : L g ≠ [] → tf (rl_la 0 (L g)) = g) :
    k < 4 ∧ ev_I bk c g s E bp0 (na_u bp t (4 * x + y)) tf' (upd qu k (nI (4 * x + y))) (na_u sv k t) i (k + 1) := by
  obtain ⟨i1, i2, i3, i4, i5, i6, i7⟩ := I
  obtain ⟨t1, t2, t3, t4, t5⟩ := TP
  have hsv : ∀ j, j < k → sv j ≠ t := fun j hj e => by
    obtain ⟨-, -, -, -, q, -⟩ := i3 j hj
    rw [e] at q
    exact q tc
  have hb : bp t = bp0 t := (i5 t ht).elim id (fun ⟨j, hj, e⟩ => absurd e (hsv j hj))
  have hx : tf' x = g := by
    rcases t5 with ⟨-, u2, u3, u4, u5, u6⟩ | ⟨u1, u2, u3, u4, u5, u6⟩
    · rw [u2, u4]; exact hla u3
    · rw [u5, na_us]
  have htf : ∀ z, tf z ≠ 0 → tf' z = tf z := fun z hz => by
    rcases t5 with ⟨-, u2, u3, u4, u5, u6⟩ | ⟨u1, u2, u3, u4, u5, u6⟩
    · rw [u2]
    · have zx : z ≠ x := fun e => hz (e ▸ u1)
      rw [u5, na_un zx]
  have e4 : (4 * x + y) / 4 = x := by omega
  have e4' : (4 * x + y) / 4 ≠ c := by rw [e4]; exact t3
  have inj : ∀ j j', j < k + 1 → j' < k + 1 → na_u sv k t j = na_u sv k t j' → j = j' := fun j j' hj hj' e => by
    by_cases z : j = k
    · by_cases z' : j' = k
      · omega
      · rw [z, na_us, na_un z'] at e
        exact absurd e.symm (hsv j' (by omega))
    · by_cases z' : j' = k
      · rw [z', na_us, na_un z] at e
        exact absurd e (hsv j (by omega))
      · rw [na_un z, na_un z'] at e
        exact i4 j j' (by omega) (by omega) e
  have old : ∀ j, j < k + 1 → na_u sv k t j < bk ∧ bp0 (na_u sv k t j) ≠ 0 ∧ bp0 (na_u sv k t j) / 4 = c := fun j hj => by
    by_cases z : j = k
    · rw [z, na_us, ← hb]; exact ⟨ht, t0, tc⟩
    · rw [na_un z]
      obtain ⟨q1, q2, q3, q4, q5⟩ := i3 j (by omega)
      exact ⟨q1, q3, q4⟩
  have k4 : k + 1 ≤ 4 := ev_lt hi0 ⟨i1, i2, i3, i4, i5, i6, i7⟩ ht t0 tc
  refine ⟨by omega, k4, by omega, fun j hj => ?_, inj, fun u hu => ?_, fun j hj f hf => ?_, ?_⟩
  · obtain ⟨q1, q2, q3⟩ := old j hj
    by_cases z : j = k
    · subst z
      rw [na_us] at q1 q2 q3 ⊢
      rw [na_us, pk_us, e4]
      exact ⟨q1, by omega, q2, q3, t3, hx, rfl⟩
    · rw [na_un z] at q1 q2 q3 ⊢
      obtain ⟨r1, r2, r3, r4, r5, r6, r7⟩ := i3 j (by omega)
      rw [na_un (hsv j (by omega)), pk_un z]
      exact ⟨r1, r2, r3, r4, r5, by rw [htf _ (by omega)]; exact r6, r7⟩
  · by_cases z : u = t
    · exact Or.inr ⟨k, by omega, by rw [na_us, z]⟩
    · rw [na_un z]
      refine (i5 u hu).imp id (fun ⟨j, hj, e⟩ => ⟨j, by omega, ?_⟩)
      rw [na_un (by omega)]; exact e
  · rw [na_un (by omega : j ≠ k)]
    exact hp_plu e4' (Or.inr trivial) (Or.inl (i6 j hj f hf))
  · obtain ⟨j, hj, e⟩ := i7
    exact ⟨j, by omega, by rw [na_un (by omega)]; exact e⟩
end EV
section EV2
variable {k1 k2 k3 k4 rl st : Int32} {rc mb ft lt tc bk sk qc mt : Nat} {ra sr fo so he rn rp tf cn cu rh th tt tk bo bp : Nat → Nat} {va qu sl : Nat → Int32} {c s g : Nat} {fc : Nat → Nat} {vl : Nat → Int32} {E : Nat → Nat → Nat} {Ro : Nat → Nat} {L R : Nat → List Nat} {bp0 : Nat → Nat} {Q : (Nat → Nat) → (Nat → List Nat) → (Nat → Nat) → (Nat → Nat) → Prop}
def ev_Q (bk c g s : Nat) (E : Nat → Nat → Nat) (Q : (Nat → Nat) → (Nat → List Nat) → (Nat → Nat) → (Nat → Nat) → Prop) : Prop :=
  ∀ bp L tf cu t L' tf' cu' x i, Q bp L tf cu → ab_W c bk E bp L tf cu → t < bk → bp t ≠ 0 → bp t / 4 = c → (t = s ∨ ∃ t', t' < bk ∧ bp t' ≠ 0 ∧ tf (bp t' / 4) = g ∧ bp t' / 4 ≠ c ∧ ∃ f, f < 3 ∧ E t' f = t + 1) → tr_TP L tf cu g c L' tf' cu' x i → Q (na_u bp t (4 * x + i)) L' tf' cu'
theorem ev_la (W : mv_W c bk bo fc vl E Ro rc ra sr fo va so he R rn rp rh L tf cn cu th tt tk bp) (hg : 1 ≤ g) (hg' : g ≤ 5) : L g ≠ [] → tf (rl_la 0 (L g)) = g := fun hl => ((W.2.1.2.1 g _ hg hg').mp (rl_lam _ 0 hl)).2.2
theorem ev_51 {post : SX → Prop} {J : _} {i : Nat} (c1 : 1 ≤ c) (c2 : c < 28) (hg : 1 ≤ g) (hg' : g ≤ 5) (hi0 : ∀ t t', t < bk → t' < bk → bp0 t ≠ 0 → bp0 t = bp0 t' → t = t') (hQ : ev_Q bk c g s E Q)
    (k : ∀ (ra sr fo : Nat → Nat) (va : Nat → Int32) (so he : Nat → Nat) (R : Nat → List Nat) (rn rp rh : Nat → Nat) (L : Nat → List Nat) (tf cn cu th tt tk bp : Nat → Nat) (qu : Nat → Int32) (sv : Nat → Nat) (k : Nat), mv_W c bk bo fc vl E Ro rc ra sr fo va so he R rn rp rh L tf cn cu th tt tk bp → ev_I bk c g s E bp0 bp tf qu sv (i + 1) k → Q bp L tf cu → J (nI k) (nI (i + 1)) k1 k2 k3 k4 (nI rc) (nI mb) (nI ft) (nI lt) (nI tc) (nI bk) (nI sk) (nI qc) (nI mt) rl st (na_A ra) (na_A sr) (na_A fo) va (na_A so) (na_A he) (na_A rn) (na_A rp) (na_A tf) (na_A cn) (na_A cu) (na_A rh) (na_A th) (na_A tt) (na_A tk) qu (na_A bo) (na_A bp) sl) :
    ∀ (d f n : Nat) (ra sr fo : Nat → Nat) (va : Nat → Int32) (so he : Nat → Nat) (R : Nat → List Nat) (rn rp rh : Nat → Nat) (L : Nat → List Nat) (tf cn cu th tt tk bp : Nat → Nat) (qu : Nat → Int32) (sv : Nat → Nat) (k : Nat), f + d = 3 → d < n → mv_W c bk bo fc vl E Ro rc ra sr fo va so he R rn rp rh L tf cn cu th tt tk bp → ev_I bk c g s E bp0 bp tf qu sv i k → i < k → (∀ f', f' < f → hp_pl bp (E (sv i) f') / 4 ≠ c) → Q bp L tf cu →
      wX_evacuate_51 post J (nI g) (nI c) (nI i) (nI (bp (sv i))) n (nI k) (nI f) k1 k2 k3 k4 (nI rc) (nI mb) (nI ft) (nI lt) (nI tc) (nI bk) (nI sk) (nI qc) (nI mt) rl st (na_A ra) (na_A sr) (na_A fo) va (na_A so) (na_A he) (na_A rn) (na_A rp) (na_A tf) (na_A cn) (na_A cu) (na_A rh) (na_A th) (na_A tt) (na_A tk) qu (na_A bo) (na_A bp) sl := by
  intro d
  induction d with
  | zero =>
    intro f n ra sr fo va so he R rn rp rh L tf cn cu th tt tk bp qu sv kk h1 h2 W I hik hf q
    obtain ⟨n, rfl⟩ : ∃ m, n = m + 1 := ⟨n - 1, by omega⟩
    have : f = 3 := by omega
    subst this
    rw [wX_evacuate_51]
    refine br_t (nI_le (a := 3) (b := 3) (by omega) (by omega)) (nm_r (nI_1 i) (k ra sr fo va so he R rn rp rh L tf cn cu th tt tk bp qu sv kk W ?_ q))
    obtain ⟨i1, i2, i3, i4, i5, i6, i7⟩ := I
    refine ⟨i1, by omega, i3, i4, i5, fun j hj f hf' => ?_, i7⟩
    by_cases z : j = i
    · rw [z]; exact hf f hf'
    · exact i6 j (by omega) f hf'
  | succ d ih =>
    intro f n ra sr fo va so he R rn rp rh L tf cn cu th tt tk bp qu sv kk h1 h2 W I hik hf q
    obtain ⟨n, rfl⟩ : ∃ m, n = m + 1 := ⟨n - 1, by omega⟩
    obtain ⟨i1, i2, i3, i4, i5, i6, i7⟩ := I
    obtain ⟨q1, q2, q3, q4, q5, q6, q7⟩ := i3 i hik
    obtain ⟨o1, o2, o3, o4, o5, o6, o7⟩ := W.1.1 (sv i) q1 q2
    obtain ⟨l1, l2⟩ := o7 f (by omega)
    have hb := W.2.2.1.2.1 (4 * bp (sv i) + f)
    rw [wX_evacuate_51]
    refine br_f (nI_ge (b := 3) (by omega) (by omega)) ?_
    rw [na_m4]
    refine ⟨vp_in_nI (by omega) (by omega), nm_r (na_rd (by omega)) ?_⟩
    rw [na_s2 (by omega)]
    by_cases z : he (4 * bp (sv i) + f) / 4 = c
    · refine br_t (congrArg nI z) ?_
      rw [l1] at z ⊢
      cases ee : E (sv i) f with
      | zero =>
        rw [ee, hp_0] at z
        omega
      | succ t =>
        rw [ee] at l2 z
        rw [hp_1] at z ⊢
        have l2' : t + 1 ≤ bk ∧ bp t ≠ 0 := l2.elim (fun e => absurd e (by omega)) id
        have kk4 : kk < 4 := ev_lt hi0 ⟨i1, i2, i3, i4, i5, i6, i7⟩ (by omega) l2'.2 z
        refine br_f (nI_ge (b := 4) (by omega) (by omega)) (mv_mv W (by omega) l2'.2 z hg hg' (fun ra' sr' fo' va' so' he' R' rn' rp' rh' L' tf' cn' cu' th' tt' tk' bp' W' x y TP e => ?_))
        subst e
        obtain ⟨s1, s2⟩ := ev_step hg hi0 ⟨i1, i2, i3, i4, i5, i6, i7⟩ (by omega) l2'.2 z TP (ev_la W hg hg')
        have ek : na_u sv kk t i = sv i := na_un (by omega)
        have et : na_u bp t (4 * x + y) (sv i) = bp (sv i) := na_un (fun e => q5 (by rw [e]; exact z))
        have e4 : (4 * x + y) / 4 ≠ c := by
          have := TP.2.2.1
          have := TP.2.2.2.1
          omega
        refine ⟨vp_in_nI (by omega) (by omega), nm_r (na_ww (by omega)) (nm_r (nI_1 kk) (nm_r (nI_1 f) ?_))⟩
        have G := ih (f + 1) n ra' sr' fo' va' so' he' R' rn' rp' rh' L' tf' cn' cu' th' tt' tk' (na_u bp t (4 * x + y)) (upd qu kk (nI (4 * x + y))) (na_u sv kk t) (kk + 1) (by omega) (by omega) W' s2 (by omega) (fun f' hf' => ?_) (hQ bp L tf cu t L' tf' cu' x y q (ab_of W) (by omega) l2'.2 z (Or.inr ⟨sv i, q1, q2, q6, q5, f, by omega, ee⟩) TP)
        · rw [ek, et] at G
          exact G
        · rw [ek]
          by_cases w : f' = f
          · rw [w]; exact hp_plu e4 (Or.inr trivial) (Or.inr ee)
          · exact hp_plu e4 (Or.inr trivial) (Or.inl (hf f' (by omega)))
    · refine br_f (fun e => z ((nI_eq (by omega) (by omega)).mp e)) (nm_r (nI_1 f) (ih (f + 1) n ra sr fo va so he R rn rp rh L tf cn cu th tt tk bp qu sv kk (by omega) (by omega) W ⟨i1, i2, i3, i4, i5, i6, i7⟩ hik (fun f' hf' => ?_) q))
      by_cases w : f' = f
      · rw [w, ← l1]; exact z
      · exact hf f' (by omega)
theorem ev_22 {post : SX → Prop} (c1 : 1 ≤ c) (c2 : c < 28) (hg : 1 ≤ g) (hg' : g ≤ 5) (hi0 : ∀ t t', t < bk → t' < bk → bp0 t ≠ 0 → bp0 t = bp0 t' → t = t') (hQ : ev_Q bk c g s E Q)
    (k : ∀ (ra sr fo : Nat → Nat) (va : Nat → Int32) (so he : Nat → Nat) (R : Nat → List Nat) (rn rp rh : Nat → Nat) (L : Nat → List Nat) (tf cn cu th tt tk bp : Nat → Nat) (qu : Nat → Int32) (sv : Nat → Nat) (k : Nat), mv_W c bk bo fc vl E Ro rc ra sr fo va so he R rn rp rh L tf cn cu th tt tk bp → ev_I bk c g s E bp0 bp tf qu sv k k → Q bp L tf cu → post (k1, k2, k3, k4, nI rc, nI mb, nI ft, nI lt, nI tc, nI bk, nI sk, nI qc, nI mt, rl, st, na_A ra, na_A sr, na_A fo, va, na_A so, na_A he, na_A rn, na_A rp, na_A tf, na_A cn, na_A cu, na_A rh, na_A th, na_A tt, na_A tk, qu, na_A bo, na_A bp, sl)) :
    ∀ (n i : Nat) (ra sr fo : Nat → Nat) (va : Nat → Int32) (so he : Nat → Nat) (R : Nat → List Nat) (rn rp rh : Nat → Nat) (L : Nat → List Nat) (tf cn cu th tt tk bp : Nat → Nat) (qu : Nat → Int32) (sv : Nat → Nat) (k : Nat), 4 - i < n → mv_W c bk bo fc vl E Ro rc ra sr fo va so he R rn rp rh L tf cn cu th tt tk bp → ev_I bk c g s E bp0 bp tf qu sv i k → Q bp L tf cu → wX_evacuate_22 post (nI g) (nI c) n (nI k) (nI i) k1 k2 k3 k4 (nI rc) (nI mb) (nI ft) (nI lt) (nI tc) (nI bk) (nI sk) (nI qc) (nI mt) rl st (na_A ra) (na_A sr) (na_A fo) va (na_A so) (na_A he) (na_A rn) (na_A rp) (na_A tf) (na_A cn) (na_A cu) (na_A rh) (na_A th) (na_A tt) (na_A tk) qu (na_A bo) (na_A bp) sl := by
  intro n
  induction n with
  | zero => intro i ra sr fo va so he R rn rp rh L tf cn cu th tt tk bp qu sv kk h; omega
  | succ n ih =>
    intro i ra sr fo va so he R rn rp rh L tf cn cu th tt tk bp qu sv kk h W I q
    have I' := I
    obtain ⟨i1, i2, i3, i4, i5, i6, i7⟩ := I
    rw [wX_evacuate_22]
    refine pk_le kk i (fun z => ?_) (fun z => ?_)
    · have : i = kk := by omega
      subst this
      exact k ra sr fo va so he R rn rp rh L tf cn cu th tt tk bp qu sv i W I' q
    · obtain ⟨q1, q2, q3, q4, q5, q6, q7⟩ := i3 i z
      refine br_f (nI_ge (b := 4) (by omega) (by omega)) ⟨vp_in_nI (by omega) (by omega), nm_r (e' := nI (bp (sv i))) (by rw [nI_clamp (n := i) (by omega)]; exact q7) ⟨4, ?_⟩⟩
      exact ev_51 c1 c2 hg hg' hi0 hQ (fun ra sr fo va so he R rn rp rh L tf cn cu th tt tk bp qu sv k2 W2 I2 Q2 => ih (i + 1) ra sr fo va so he R rn rp rh L tf cn cu th tt tk bp qu sv k2 (by omega) W2 I2 Q2) 3 0 4 ra sr fo va so he R rn rp rh L tf cn cu th tt tk bp qu sv kk (by omega) (by omega) W I' z (fun f' hf' => absurd hf' (Nat.not_lt_zero _)) q
/-- evacuate -/
theorem ev_evac {post : SX → Prop} (W : mv_W c bk bo fc vl E Ro rc ra sr fo va so he R rn rp rh L tf cn cu th tt tk bp) (hs : s < bk) (h0 : bp s ≠ 0) (hc : bp s / 4 = c) (hg : 1 ≤ g) (hg' : g ≤ 5) (hQ : ev_Q bk c g s E Q) (q : Q bp L tf cu)
    (K : ∀ (ra' sr' fo' : Nat → Nat) (va' : Nat → Int32) (so' he' : Nat → Nat) (R' : Nat → List Nat) (rn' rp' rh' : Nat → Nat) (L' : Nat → List Nat) (tf' cn' cu' th' tt' tk' bp' : Nat → Nat) (qu' : Nat → Int32), mv_W c bk bo fc vl E Ro rc ra' sr' fo' va' so' he' R' rn' rp' rh' L' tf' cn' cu' th' tt' tk' bp' → Q bp' L' tf' cu' → (∀ t, t < bk → (bp' t = bp t ∨ (bp t ≠ 0 ∧ bp t / 4 = c ∧ bp' t ≠ 0 ∧ bp' t / 4 ≠ c ∧ tf' (bp' t / 4) = g ∧ ∀ f, f < 3 → hp_pl bp' (E t f) / 4 ≠ c))) → (bp' s ≠ 0 ∧ bp' s / 4 ≠ c ∧ tf' (bp' s / 4) = g) → post (k1, k2, k3, k4, nI rc, nI mb, nI ft, nI lt, nI tc, nI bk, nI sk, nI qc, nI mt, rl, st, na_A ra', na_A sr', na_A fo', va', na_A so', na_A he', na_A rn', na_A rp', na_A tf', na_A cn', na_A cu', na_A rh', na_A th', na_A tt', na_A tk', qu', na_A bo, na_A bp', sl)) :
    wpX_evacuate post (k1, k2, k3, k4, nI rc, nI mb, nI ft, nI lt, nI tc, nI bk, nI sk, nI qc, nI mt, rl, st, na_A ra, na_A sr, na_A fo, va, na_A so, na_A he, na_A rn, na_A rp, na_A tf, na_A cn, na_A cu, na_A rh, na_A th, na_A tt, na_A tk, qu, na_A bo, na_A bp, sl) (nI (bp s)) (nI g) := by
  have AB := ab_of W
  have hi0 := AB.2.1
  have o1 := (AB.1 s hs h0).1
  have o2 := (AB.1 s hs h0).2.1
  refine nm_r (na_s2 (by omega)) ?_
  rw [hc]
  refine mv_mv W hs h0 hc hg hg' (fun ra' sr' fo' va' so' he' R' rn' rp' rh' L' tf' cn' cu' th' tt' tk' bp' W' x y TP e => ?_)
  subst e
  have e0 : ev_I bk c g s E bp bp tf qu (fun _ => 0) 0 0 ∨ True := Or.inr trivial
  have hx : tf' x = g := by
    rcases TP.2.2.2.2 with ⟨-, u2, u3, u4, u5, u6⟩ | ⟨u1, u2, u3, u4, u5, u6⟩
    · rw [u2, u4]; exact ev_la W hg hg' u3
    · rw [u5, na_us]
  have e4 : (4 * x + y) / 4 = x := by
    have := TP.2.2.2.1
    omega
  have x1 := TP.1
  refine nm_r (e' := upd qu 0 (nI (4 * x + y))) rfl ⟨5, ?_⟩
  refine ev_22 (bp0 := bp) (Q := Q) (s := s) (by omega) (by omega) hg hg' hi0 hQ (fun ra'' sr'' fo'' va'' so'' he'' R'' rn'' rp'' rh'' L'' tf'' cn'' cu'' th'' tt'' tk'' bp'' qu'' sv'' k'' W'' I'' Q'' => ?_) 5 0 ra' sr' fo' va' so' he' R' rn' rp' rh' L' tf' cn' cu' th' tt' tk' (na_u bp s (4 * x + y)) (upd qu 0 (nI (4 * x + y))) (fun _ => s) 1 (by omega) W' ?_ (hQ bp L tf cu s L' tf' cu' x y q AB hs h0 hc (Or.inl rfl) TP)
  · obtain ⟨i1, i2, i3, i4, i5, i6, i7⟩ := I''
    refine K ra'' sr'' fo'' va'' so'' he'' R'' rn'' rp'' rh'' L'' tf'' cn'' cu'' th'' tt'' tk'' bp'' qu'' W'' Q'' (fun t ht => ?_) ?_
    · rcases i5 t ht with e | ⟨j, hj, e⟩
      · exact Or.inl e
      · obtain ⟨q1, q2, q3, q4, q5, q6, q7⟩ := i3 j hj
        rw [e] at q2 q3 q4 q5 q6
        exact Or.inr ⟨q3, q4, q2, q5, q6, fun f hf => by rw [← e]; exact i6 j hj f hf⟩
    · obtain ⟨j, hj, e⟩ := i7
      obtain ⟨q1, q2, q3, q4, q5, q6, q7⟩ := i3 j hj
      rw [e] at q2 q3 q4 q5 q6
      exact ⟨q2, q5, q6⟩
  · refine ⟨by omega, by omega, fun j hj => ?_, fun j j' hj hj' _ => by omega, fun t ht => ?_, fun j hj => absurd hj (Nat.not_lt_zero _), ⟨0, by omega, rfl⟩⟩
    · have : j = 0 := by omega
      subst this
      rw [na_us, pk_us, e4]
      exact ⟨hs, by omega, h0, hc, TP.2.2.1, hx, rfl⟩
    · by_cases z : t = s
      · exact Or.inr ⟨0, by omega, z.symm⟩
      · exact Or.inl (na_un z)
theorem ev_ev {post : SX → Prop} (W : mv_W c bk bo fc vl E Ro rc ra sr fo va so he R rn rp rh L tf cn cu th tt tk bp) (hs : s < bk) (h0 : bp s ≠ 0) (hc : bp s / 4 = c) (hg : 1 ≤ g) (hg' : g ≤ 5) (hQ : ev_Q bk c g s E Q) (q : Q bp L tf cu)
    (K : ∀ (ra' sr' fo' : Nat → Nat) (va' : Nat → Int32) (so' he' : Nat → Nat) (R' : Nat → List Nat) (rn' rp' rh' : Nat → Nat) (L' : Nat → List Nat) (tf' cn' cu' th' tt' tk' bp' : Nat → Nat) (qu' : Nat → Int32), mv_W c bk bo fc vl E Ro rc ra' sr' fo' va' so' he' R' rn' rp' rh' L' tf' cn' cu' th' tt' tk' bp' → Q bp' L' tf' cu' → (∀ x, tf x ≠ 0 → tf' x = tf x) → (∀ t, t < bk → (bp' t = bp t ∨ (bp t ≠ 0 ∧ bp t / 4 = c ∧ bp' t ≠ 0 ∧ bp' t / 4 ≠ c ∧ tf' (bp' t / 4) = g ∧ ∀ f, f < 3 → hp_pl bp' (E t f) / 4 ≠ c))) → (bp' s ≠ 0 ∧ bp' s / 4 ≠ c ∧ tf' (bp' s / 4) = g) → post (k1, k2, k3, k4, nI rc, nI mb, nI ft, nI lt, nI tc, nI bk, nI sk, nI qc, nI mt, rl, st, na_A ra', na_A sr', na_A fo', va', na_A so', na_A he', na_A rn', na_A rp', na_A tf', na_A cn', na_A cu', na_A rh', na_A th', na_A tt', na_A tk', qu', na_A bo, na_A bp', sl)) :
    wpX_evacuate post (k1, k2, k3, k4, nI rc, nI mb, nI ft, nI lt, nI tc, nI bk, nI sk, nI qc, nI mt, rl, st, na_A ra, na_A sr, na_A fo, va, na_A so, na_A he, na_A rn, na_A rp, na_A tf, na_A cn, na_A cu, na_A rh, na_A th, na_A tt, na_A tk, qu, na_A bo, na_A bp, sl) (nI (bp s)) (nI g) := by
  refine ev_evac (Q := fun bp1 L1 tf1 cu1 => Q bp1 L1 tf1 cu1 ∧ ∀ x, tf x ≠ 0 → tf1 x = tf x) W hs h0 hc hg hg' ?_ ⟨q, fun x _ => rfl⟩ (fun ra' sr' fo' va' so' he' R' rn' rp' rh' L' tf' cn' cu' th' tt' tk' bp' qu' W' q' h1 h2 => K ra' sr' fo' va' so' he' R' rn' rp' rh' L' tf' cn' cu' th' tt' tk' bp' qu' W' q'.1 q'.2 h1 h2)
  intro bp1 L1 tf1 cu1 t L2 tf2 cu2 x i q1 A ht t0 tc hh TP
  refine ⟨hQ bp1 L1 tf1 cu1 t L2 tf2 cu2 x i q1.1 A ht t0 tc hh TP, fun y hy => ?_⟩
  have e := q1.2 y hy
  rcases TP.2.2.2.2 with ⟨-, u2, u3, u4, u5, u6⟩ | ⟨u1, u2, u3, u4, u5, u6⟩
  · rw [u2]; exact e
  · rw [u5, na_un (fun z => hy (by rw [← e, z]; exact u1))]
    exact e
end EV2
end
section
/-! questions over remembered sets -/
section LU
theorem rl_step {he rn rp rh : Nat → Nat} {R : Nat → List Nat} {c x : Nat} {pre xs : List Nat} (h : rl_RI he R rn rp rh) (hc : c < 28) (e : R c = pre ++ x :: xs) : 16 ≤ x ∧ x < 448 ∧ rn x = xs.headD 0 ∧ he x ≠ 0 ∧ he x / 4 = c ∧ x / 16 ≠ c ∧ x ∈ R c := by
  have hm : x ∈ R c := by rw [e]; exact List.mem_append_right _ List.mem_cons_self
  obtain ⟨m1, m2, m3, m4⟩ := (h.2.2.2 c x hc).mp hm
  have m5 : 16 ≤ x := by
    apply Nat.le_of_not_lt
    intro w
    exact m2 (h.1 x w)
  obtain ⟨b1, b2, b3⟩ := h.2.2.1 c hc
  rw [e] at b2
  obtain ⟨-, -, s4, -⟩ := (rl_app pre 0).mp b2
  exact ⟨m5, m1, s4, m2, m3, m4, hm⟩
theorem rl_len {he rn rp rh : Nat → Nat} {R : Nat → List Nat} {c : Nat} (h : rl_RI he R rn rp rh) (hc : c < 28) : (R c).length ≤ 448 :=
  na_len (h.2.2.1 c hc).2.2 (fun x hx => ((h.2.2.2 _ x hc).mp hx).1)
theorem tr_nxm {cn : Nat → Nat} {x : Nat} {xs : List Nat} : ∀ pre : List Nat, tr_nx cn (pre ++ x :: xs) → cn x = xs.headD 0 := by
  intro pre
  induction pre with
  | nil => intro h; exact h.1
  | cons y ys ih => intro h; exact ih h.2
theorem tr_step {ex t x : Nat} {L : Nat → List Nat} {tf cn cu th tt tk : Nat → Nat} {pre xs : List Nat} (h : tr_TI ex L tf cn cu th tt tk) (ht : 1 ≤ t) (ht' : t ≤ 5) (e : L t = pre ++ x :: xs) : 1 ≤ x ∧ x < 28 ∧ cn x = xs.headD 0 ∧ tf x = t ∧ x ∈ L t := by
  have hm : x ∈ L t := by rw [e]; exact List.mem_append_right _ List.mem_cons_self
  obtain ⟨a, b, d⟩ := (h.2.1 t x ht ht').mp hm
  have := (h.1 t ht ht').2.1
  rw [e] at this
  exact ⟨a, b, tr_nxm pre this, d, hm⟩
theorem tr_len {ex t : Nat} {L : Nat → List Nat} {tf cn cu th tt tk : Nat → Nat} (h : tr_TI ex L tf cn cu th tt tk) (ht : 1 ≤ t) (ht' : t ≤ 5) : (L t).length ≤ 28 :=
  na_len (h.1 t ht ht').1 (fun x hx => ((h.2.1 t x ht ht').mp hx).2.1)
variable {zk1 zk2 zk3 zk4 zrc zmb zft zlt ztc zbk zsk zqc zmt zrl zst : Int32} {zra zsr zfo zva zso zhe zrn zrp ztf zcn zcu zrh zth ztt ztk zqu zbo zbp zsl : Nat → Int32}
theorem lu_ch10 {post : Int32 → Prop} {he rn rp rh tf : Nat → Nat} {R : Nat → List Nat} {c T : Nat} (h : rl_RI he R rn rp rh) (hc : c < 28) (hT : T ≤ 5) (hb : ∀ x, tf x ≤ 5)
    (k1 : (∃ x, x ∈ R c ∧ tf (x / 16) ≠ T) → post 1) (k0 : (∀ x, x ∈ R c → tf (x / 16) = T) → post 0) :
    ∀ (rest pre : List Nat) (n i : Nat), R c = pre ++ rest → (∀ y, y ∈ pre → tf (y / 16) = T) → i + rest.length ≤ 448 → rest.length < n → wX_carHeldByOtherTrain_10 post (nI T) zk1 zk2 zk3 zk4 zrc zmb zft zlt ztc zbk zsk zqc zmt zrl zst zra zsr zfo zva zso zhe (na_A rn) zrp (na_A tf) zcn zcu zrh zth ztt ztk zqu zbo zbp zsl n (nI (rest.headD 0)) (nI i) := by
  intro rest
  induction rest with
  | nil =>
    intro pre n i e h1 h2 h3
    obtain ⟨n, rfl⟩ : ∃ m, n = m + 1 := ⟨n - 1, by omega⟩
    rw [wX_carHeldByOtherTrain_10]
    refine br_t nI_0 (k0 (fun x hx => h1 x ?_))
    rw [e, List.append_nil] at hx
    exact hx
  | cons x xs ih =>
    intro pre n i e h1 h2 h3
    obtain ⟨n, rfl⟩ : ∃ m, n = m + 1 := ⟨n - 1, by omega⟩
    obtain ⟨m1, m2, m3, m4, m5, m6, m7⟩ := rl_step h hc e
    rw [List.length_cons] at h2 h3
    rw [wX_carHeldByOtherTrain_10]
    show (nI x = 0 → _) ∧ (¬ nI x = 0 → _)
    refine br_f (nI_ne0 (by omega) (by omega)) (br_f (nI_ge (b := 448) (by omega) (by omega)) ?_)
    show vp_in (nI x >>> _) 28 ∧ ((na_A tf (nI x >>> _).toNatClampNeg = nI T → _) ∧ (¬ na_A tf (nI x >>> _).toNatClampNeg = nI T → _))
    rw [na_s4 (by omega), na_rd (by omega)]
    have hbx := hb (x / 16)
    refine ⟨vp_in_nI (by omega) (by omega), ?_⟩
    by_cases z : tf (x / 16) = T
    · refine br_t (congrArg nI z) ⟨vp_in_nI m2 (by omega), nm_r (e' := nI (xs.headD 0)) (by show na_A rn (nI x).toNatClampNeg = _; rw [na_rd (by omega), m3]) (nm_r (nI_1 i) (ih (pre ++ [x]) n (i + 1) (by rw [e, List.append_assoc]; rfl) (fun y hy => ?_) (by omega) (by omega)))⟩
      rcases List.mem_append.mp hy with y1 | y1
      · exact h1 y y1
      · rw [List.mem_singleton] at y1
        rw [y1]; exact z
    · exact br_f (fun q => z ((nI_eq (by omega) (by omega)).mp q)) (k1 ⟨x, m7, z⟩)
theorem lu_ch {post : Int32 → Prop} {he rn rp rh tf : Nat → Nat} {R : Nat → List Nat} {c T : Nat} (h : rl_RI he R rn rp rh) (hc : c < 28) (hT : T ≤ 5) (hb : ∀ x, tf x ≤ 5)
    (k1 : (∃ x, x ∈ R c ∧ tf (x / 16) ≠ T) → post 1) (k0 : (∀ x, x ∈ R c → tf (x / 16) = T) → post 0) : wpX_carHeldByOtherTrain post (zk1, zk2, zk3, zk4, zrc, zmb, zft, zlt, ztc, zbk, zsk, zqc, zmt, zrl, zst, zra, zsr, zfo, zva, zso, zhe, na_A rn, zrp, na_A tf, zcn, zcu, na_A rh, zth, ztt, ztk, zqu, zbo, zbp, zsl) (nI c) (nI T) := by
  have len := rl_len h hc
  exact ⟨vp_in_nI hc (by omega), nm_r (e' := nI ((R c).headD 0)) (by rw [na_rd (by omega), (h.2.2.1 c hc).1]) ⟨449, lu_ch10 h hc hT hb k1 k0 (R c) [] 449 0 rfl (fun y hy => nomatch hy) (by omega) (by omega)⟩⟩
theorem lu_th50 {post : Int32 → Prop} {he rn rp rh tf cn cu th tt tk : Nat → Nat} {R L : Nat → List Nat} {T : Nat} (h : rl_RI he R rn rp rh) (TI : tr_TI 0 L tf cn cu th tt tk) (hT : 1 ≤ T) (hT' : T ≤ 5)
    (k1 : (∃ c, c ∈ L T ∧ ∃ x, x ∈ R c ∧ tf (x / 16) ≠ T) → post 1) (k0 : (∀ c, c ∈ L T → ∀ x, x ∈ R c → tf (x / 16) = T) → post 0) :
    ∀ (rest pre : List Nat) (n i : Nat), L T = pre ++ rest → (∀ c, c ∈ pre → ∀ x, x ∈ R c → tf (x / 16) = T) → i + rest.length ≤ 28 → rest.length < n → wX_trainHeldFromOutside_50 post (nI T) zk1 zk2 zk3 zk4 zrc zmb zft zlt ztc zbk zsk zqc zmt zrl zst zra zsr zfo zva zso zhe (na_A rn) zrp (na_A tf) (na_A cn) zcu (na_A rh) zth ztt ztk zqu zbo zbp zsl n (nI (rest.headD 0)) (nI i) := by
  intro rest
  induction rest with
  | nil =>
    intro pre n i e h1 h2 h3
    obtain ⟨n, rfl⟩ : ∃ m, n = m + 1 := ⟨n - 1, by omega⟩
    rw [wX_trainHeldFromOutside_50]
    refine br_t nI_0 (k0 (fun x hx => h1 x ?_))
    rw [e, List.append_nil] at hx
    exact hx
  | cons x xs ih =>
    intro pre n i e h1 h2 h3
    obtain ⟨n, rfl⟩ : ∃ m, n = m + 1 := ⟨n - 1, by omega⟩
    obtain ⟨m1, m2, m3, m4, m5⟩ := tr_step TI hT hT' e
    rw [List.length_cons] at h2 h3
    rw [wX_trainHeldFromOutside_50]
    show (nI x = 0 → _) ∧ (¬ nI x = 0 → _)
    refine br_f (nI_ne0 (by omega) (by omega)) (br_f (nI_ge (b := 28) (by omega) (by omega)) ?_)
    refine lu_ch h m2 hT' TI.2.2.1 (fun q => ?_) (fun q => ?_)
    · exact br_f (by decide) (k1 ⟨x, m5, q⟩)
    · refine br_t rfl ⟨vp_in_nI m2 (by omega), nm_r (e' := nI (xs.headD 0)) (by show na_A cn (nI x).toNatClampNeg = _; rw [na_rd (by omega), m3]) (nm_r (nI_1 i) (ih (pre ++ [x]) n (i + 1) (by rw [e, List.append_assoc]; rfl) (fun y hy => ?_) (by omega) (by omega)))⟩
      rcases List.mem_append.mp hy with y1 | y1
      · exact h1 y y1
      · rw [List.mem_singleton] at y1
        rw [y1]; exact q
theorem lu_th2 {post : Int32 → Prop} {ra he rn rp rh tf cn cu th tt tk : Nat → Nat} {R L : Nat → List Nat} {T rc : Nat} (h : rl_RI he R rn rp rh) (TI : tr_TI 0 L tf cn cu th tt tk) (hT : 1 ≤ T) (hT' : T ≤ 5) (hrc : rc ≤ 8) (hra : ∀ r, r < rc → ra r < 112)
    (k1 : ((∃ r, r < rc ∧ ra r ≠ 0 ∧ tf (ra r / 4) = T) ∨ ∃ c, c ∈ L T ∧ ∃ x, x ∈ R c ∧ tf (x / 16) ≠ T) → post 1) (k0 : (∀ r, r < rc → ra r ≠ 0 → tf (ra r / 4) ≠ T) → (∀ c, c ∈ L T → ∀ x, x ∈ R c → tf (x / 16) = T) → post 0) :
    ∀ (n i : Nat), i ≤ rc → rc - i < n → (∀ r, r < i → ra r ≠ 0 → tf (ra r / 4) ≠ T) → wX_trainHeldFromOutside_2 post (nI T) zk1 zk2 zk3 zk4 (nI rc) zmb zft zlt ztc zbk zsk zqc zmt zrl zst (na_A ra) zsr zfo zva zso zhe (na_A rn) zrp (na_A tf) (na_A cn) zcu (na_A rh) (na_A th) ztt ztk zqu zbo zbp zsl n (nI i) := by
  intro n
  induction n with
  | zero => intro i _ h; omega
  | succ n ih =>
    intro i h1 h2 h3
    rw [wX_trainHeldFromOutside_2]
    have len := tr_len TI hT hT'
    refine pk_le rc i (fun z => ?_) (fun z => ?_)
    · have : i = rc := by omega
      subst this
      refine ⟨vp_in_nI (by omega) (by omega), nm_r (e' := nI ((L T).headD 0)) ?_ ⟨29, ?_⟩⟩
      · rw [na_rd (by omega), ((TI.1 T hT hT').2.2 (by omega)).1]
      · exact lu_th50 h TI hT hT' (fun q => k1 (Or.inr q)) (fun q => k0 h3 q) (L T) [] 29 0 rfl (fun y hy => nomatch hy) (by omega) (by omega)
    · have hb := hra i z
      refine ⟨vp_in_nI (by omega) (by omega), nm_r (na_rd (by omega)) ?_⟩
      refine na_eq (ra i) 0 (fun y => ?_) (fun y => ?_) rfl rfl (by omega) (by omega)
      · exact nm_r (nI_1 i) (ih (i + 1) (by omega) (by omega) (fun r hr hr0 => by
          by_cases w : r = i
          · rw [w] at hr0; exact absurd y hr0
          · exact h3 r (by omega) hr0))
      · rw [na_s2 (by omega), na_rd (by omega)]
        have hbt := TI.2.2.1 (ra i / 4)
        refine ⟨vp_in_nI (by omega) (by omega), ?_⟩
        by_cases w : tf (ra i / 4) = T
        · exact br_t (congrArg nI w) (k1 (Or.inl ⟨i, z, y, w⟩))
        · exact br_f (fun q => w ((nI_eq (by omega) (by omega)).mp q)) (nm_r (nI_1 i) (ih (i + 1) (by omega) (by omega) (fun r hr hr0 => by
            by_cases v : r = i
            · rw [v]; exact w
            · exact h3 r (by omega) hr0)))
theorem lu_th {post : Int32 → Prop} {ra he rn rp rh tf cn cu th tt tk : Nat → Nat} {R L : Nat → List Nat} {T rc : Nat} (h : rl_RI he R rn rp rh) (TI : tr_TI 0 L tf cn cu th tt tk) (hT : 1 ≤ T) (hT' : T ≤ 5) (hrc : rc ≤ 8) (hra : ∀ r, r < rc → ra r < 112)
    (k1 : ((∃ r, r < rc ∧ ra r ≠ 0 ∧ tf (ra r / 4) = T) ∨ ∃ c, c ∈ L T ∧ ∃ x, x ∈ R c ∧ tf (x / 16) ≠ T) → post 1) (k0 : (∀ r, r < rc → ra r ≠ 0 → tf (ra r / 4) ≠ T) → (∀ c, c ∈ L T → ∀ x, x ∈ R c → tf (x / 16) = T) → post 0) :
    wpX_trainHeldFromOutside post (zk1, zk2, zk3, zk4, nI rc, zmb, zft, zlt, ztc, zbk, zsk, zqc, zmt, zrl, zst, na_A ra, zsr, zfo, zva, zso, zhe, na_A rn, zrp, na_A tf, na_A cn, zcu, na_A rh, na_A th, ztt, ztk, zqu, zbo, zbp, zsl) (nI T) :=
  ⟨9, lu_th2 h TI hT hT' hrc hra k1 k0 9 0 (Nat.zero_le _) (by omega) (fun r hr => absurd hr (Nat.not_lt_zero r))⟩
theorem lu_hc11 {post : Int32 → Prop} {he rn rp rh : Nat → Nat} {R : Nat → List Nat} {c p : Nat} (h : rl_RI he R rn rp rh) (hc : c < 28) (hp : p < 112)
    (k1 : (∃ x, x ∈ R c ∧ he x = p) → post 1) (k0 : (∀ x, x ∈ R c → he x ≠ p) → post 0) :
    ∀ (rest pre : List Nat) (n i : Nat), R c = pre ++ rest → (∀ y, y ∈ pre → he y ≠ p) → i + rest.length ≤ 448 → rest.length < n → wX_heldFromOtherCar_11 post (nI p) zk1 zk2 zk3 zk4 zrc zmb zft zlt ztc zbk zsk zqc zmt zrl zst zra zsr zfo zva zso (na_A he) (na_A rn) zrp ztf zcn zcu zrh zth ztt ztk zqu zbo zbp zsl n (nI (rest.headD 0)) (nI i) := by
  intro rest
  induction rest with
  | nil =>
    intro pre n i e h1 h2 h3
    obtain ⟨n, rfl⟩ : ∃ m, n = m + 1 := ⟨n - 1, by omega⟩
    rw [wX_heldFromOtherCar_11]
    refine br_t nI_0 (k0 (fun x hx => h1 x ?_))
    rw [e, List.append_nil] at hx
    exact hx
  | cons x xs ih =>
    intro pre n i e h1 h2 h3
    obtain ⟨n, rfl⟩ : ∃ m, n = m + 1 := ⟨n - 1, by omega⟩
    obtain ⟨m1, m2, m3, m4, m5, m6, m7⟩ := rl_step h hc e
    rw [List.length_cons] at h2 h3
    have hb := h.2.1 x
    rw [wX_heldFromOtherCar_11]
    show (nI x = 0 → _) ∧ (¬ nI x = 0 → _)
    refine br_f (nI_ne0 (by omega) (by omega)) (br_f (nI_ge (b := 448) (by omega) (by omega)) ⟨vp_in_nI m2 (by omega), ?_⟩)
    show (na_A he (nI x).toNatClampNeg = nI p → _) ∧ (¬ na_A he (nI x).toNatClampNeg = nI p → _)
    rw [na_rd (by omega)]
    by_cases z : he x = p
    · exact br_t (congrArg nI z) (k1 ⟨x, m7, z⟩)
    · refine br_f (fun q => z ((nI_eq (by omega) (by omega)).mp q)) ⟨vp_in_nI m2 (by omega), nm_r (e' := nI (xs.headD 0)) (by show na_A rn (nI x).toNatClampNeg = _; rw [na_rd (by omega), m3]) (nm_r (nI_1 i) (ih (pre ++ [x]) n (i + 1) (by rw [e, List.append_assoc]; rfl) (fun y hy => ?_) (by omega) (by omega)))⟩
      rcases List.mem_append.mp hy with y1 | y1
      · exact h1 y y1
      · rw [List.mem_singleton] at y1
        rw [y1]; exact z
theorem lu_hc {post : Int32 → Prop} {he rn rp rh : Nat → Nat} {R : Nat → List Nat} {p : Nat} (h : rl_RI he R rn rp rh) (hp : p < 112)
    (k1 : (∃ x, x ∈ R (p / 4) ∧ he x = p) → post 1) (k0 : (∀ x, x ∈ R (p / 4) → he x ≠ p) → post 0) : wpX_heldFromOtherCar post (zk1, zk2, zk3, zk4, zrc, zmb, zft, zlt, ztc, zbk, zsk, zqc, zmt, zrl, zst, zra, zsr, zfo, zva, zso, na_A he, na_A rn, zrp, ztf, zcn, zcu, na_A rh, zth, ztt, ztk, zqu, zbo, zbp, zsl) (nI p) := by
  have hc : p / 4 < 28 := by omega
  have len := rl_len h hc
  have e : nI p >>> ((2 : Int32) &&& 31) = nI (p / 4) := na_s2 (by omega)
  show vp_in (nI p >>> _) 28 ∧ ∀ y : Int32, y = na_A rh (nI p >>> _).toNatClampNeg → _
  rw [e]
  exact ⟨vp_in_nI hc (by omega), nm_r (e' := nI ((R (p / 4)).headD 0)) (by rw [na_rd (by omega), (h.2.2.1 _ hc).1]) ⟨449, lu_hc11 h hc hp k1 k0 (R (p / 4)) [] 449 0 rfl (fun y hy => nomatch hy) (by omega) (by omega)⟩⟩
theorem lu_rk1 : ∀ h, h < 6 → ∀ T, T < 6 → h < T → nI h - nI T + 5 = nI (h + 5 - T) := by decide +kernel
theorem lu_yh18 {post : Int32 → Prop} {he rn rp rh tf : Nat → Nat} {R : Nat → List Nat} {c p T : Nat} (h : rl_RI he R rn rp rh) (hc : c < 28) (hp : p < 112) (hT : 1 ≤ T) (hT' : T ≤ 5) (hb : ∀ x, tf x ≤ 5) (h0 : ∀ x, x < 448 → he x ≠ 0 → 1 ≤ tf (x / 16))
    (k1 : ∀ g, 1 ≤ g → g ≤ 5 → g ≠ T → (∃ x, x ∈ R c ∧ he x = p ∧ tf (x / 16) = g) → post (nI g)) (k0 : (∀ x, x ∈ R c → he x = p → tf (x / 16) = T) → post 0) :
    ∀ (rest pre : List Nat) (n i b r : Nat), R c = pre ++ rest → r ≤ 4 → ((b = 0 ∧ r = 0 ∧ ∀ y, y ∈ pre → he y = p → tf (y / 16) = T) ∨ (1 ≤ r ∧ 1 ≤ b ∧ b ≤ 5 ∧ b ≠ T ∧ ∃ y, y ∈ R c ∧ he y = p ∧ tf (y / 16) = b)) → i + rest.length ≤ 448 → rest.length < n →
      wX_youngestHolder_18 post (nI p) (nI T) zk1 zk2 zk3 zk4 zrc zmb zft zlt ztc zbk zsk zqc zmt zrl zst zra zsr zfo zva zso (na_A he) (na_A rn) zrp (na_A tf) zcn zcu zrh zth ztt ztk zqu zbo zbp zsl n (nI b) (nI r) (nI (rest.headD 0)) (nI i) := by
  intro rest
  induction rest with
  | nil =>
    intro pre n i b r e h4 h1 h2 h3
    obtain ⟨n, rfl⟩ : ∃ m, n = m + 1 := ⟨n - 1, by omega⟩
    rw [wX_youngestHolder_18]
    refine br_t nI_0 ?_
    rcases h1 with ⟨e0, -, h1⟩ | ⟨q1, q2, q3, q4, q5⟩
    · subst e0
      refine k0 (fun x hx => h1 x ?_)
      rw [e, List.append_nil] at hx
      exact hx
    · exact k1 b q2 q3 q4 q5
  | cons x xs ih =>
    intro pre n i b r e h4 h1 h2 h3
    obtain ⟨n, rfl⟩ : ∃ m, n = m + 1 := ⟨n - 1, by omega⟩
    obtain ⟨m1, m2, m3, m4, m5, m6, m7⟩ := rl_step h hc e
    rw [List.length_cons] at h2 h3
    have hbx := h.2.1 x
    have htx := hb (x / 16)
    have ht0 := h0 x m2 m4
    have w : vp_in (nI x) 448 := vp_in_nI m2 (by omega)
    have ern : na_A rn (nI x).toNatClampNeg = nI (xs.headD 0) := by rw [na_rd (by omega), m3]
    have go : ∀ b r, r ≤ 4 → ((b = 0 ∧ r = 0 ∧ ∀ y, y ∈ pre ++ [x] → he y = p → tf (y / 16) = T) ∨ (1 ≤ r ∧ 1 ≤ b ∧ b ≤ 5 ∧ b ≠ T ∧ ∃ y, y ∈ R c ∧ he y = p ∧ tf (y / 16) = b)) → wX_youngestHolder_18 post (nI p) (nI T) zk1 zk2 zk3 zk4 zrc zmb zft zlt ztc zbk zsk zqc zmt zrl zst zra zsr zfo zva zso (na_A he) (na_A rn) zrp (na_A tf) zcn zcu zrh zth ztt ztk zqu zbo zbp zsl n (nI b) (nI r) (nI (xs.headD 0)) (nI (i + 1)) :=
      fun b r hr hq => ih (pre ++ [x]) n (i + 1) b r (by rw [e, List.append_assoc]; rfl) hr hq (by omega) (by omega)
    have keep : (he x = p → tf (x / 16) = T) → wX_youngestHolder_18 post (nI p) (nI T) zk1 zk2 zk3 zk4 zrc zmb zft zlt ztc zbk zsk zqc zmt zrl zst zra zsr zfo zva zso (na_A he) (na_A rn) zrp (na_A tf) zcn zcu zrh zth ztt ztk zqu zbo zbp zsl n (nI b) (nI r) (nI (xs.headD 0)) (nI (i + 1)) := fun hq => by
      refine go b r h4 (h1.imp (fun ⟨a1, a2, a3⟩ => ⟨a1, a2, fun y hy hy' => ?_⟩) id)
      rcases List.mem_append.mp hy with y1 | y1
      · exact a3 y y1 hy'
      · rw [List.mem_singleton] at y1
        rw [y1] at hy' ⊢
        exact hq hy'
    have s75 : ∀ k, 1 ≤ k → k ≤ 4 → he x = p → tf (x / 16) ≠ T → wX_youngestHolder_75 post (wX_youngestHolder_18 post (nI p) (nI T) zk1 zk2 zk3 zk4 zrc zmb zft zlt ztc zbk zsk zqc zmt zrl zst zra zsr zfo zva zso (na_A he) (na_A rn) zrp (na_A tf) zcn zcu zrh zth ztt ztk zqu zbo zbp zsl n) (nI p) (nI T) (nI b) (nI r) (nI x) (nI i) (nI (tf (x / 16))) (nI k) zk1 zk2 zk3 zk4 zrc zmb zft zlt ztc zbk zsk zqc zmt zrl zst zra zsr zfo zva zso (na_A he) (na_A rn) zrp (na_A tf) zcn zcu zrh zth ztt ztk zqu zbo zbp zsl := fun k k1 k4 ex tx => by
      refine pk_le k r (fun q => ⟨w, nm_r ern (nm_r (nI_1 i) (go b r h4 ?_))⟩) (fun q => ⟨w, nm_r ern (nm_r (nI_1 i) (go _ k k4 (Or.inr ⟨k1, ht0, htx, tx, x, m7, ex, rfl⟩)))⟩)
      rcases h1 with ⟨a1, a2, a3⟩ | h1
      · omega
      · exact Or.inr h1
    rw [wX_youngestHolder_18]
    show (nI x = 0 → _) ∧ (¬ nI x = 0 → _)
    refine br_f (nI_ne0 (by omega) (by omega)) (br_f (nI_ge (b := 448) (by omega) (by omega)) ?_)
    refine ⟨by show vp_in (nI x >>> _) 28; rw [na_s4 (by omega)]; exact vp_in_nI (by omega) (by omega), nm_r (e' := nI (tf (x / 16))) (by show na_A tf (nI x >>> _).toNatClampNeg = _; rw [na_s4 (by omega), na_rd (by omega)]) ⟨w, ?_⟩⟩
    show (na_A he (nI x).toNatClampNeg = nI p → _) ∧ (¬ na_A he (nI x).toNatClampNeg = nI p → _)
    rw [na_rd (by omega)]
    by_cases z : he x = p
    · refine br_t (congrArg nI z) ?_
      by_cases v : tf (x / 16) = T
      · exact br_t (congrArg nI v) ⟨w, nm_r ern (nm_r (nI_1 i) (keep (fun _ => v)))⟩
      · refine br_f (fun q => v ((nI_eq (by omega) (by omega)).mp q)) ?_
        by_cases u : T ≤ tf (x / 16)
        · exact nm_r (pk_sub u) (br_t (nI_pos' (by omega)) (s75 _ (by omega) (by omega) z v))
        · refine nm_e (br_f (Int32.not_le.mpr (pk_sneg (by omega) (by omega))) (nm_r (lu_rk1 _ (by omega) _ (by omega) (by omega)) (s75 _ (by omega) (by omega) z v)))
    · exact br_f (fun q => z ((nI_eq (by omega) (by omega)).mp q)) ⟨w, nm_r ern (nm_r (nI_1 i) (keep (fun q => absurd q z)))⟩
theorem lu_yh {post : Int32 → Prop} {he rn rp rh tf : Nat → Nat} {R : Nat → List Nat} {p T : Nat} (h : rl_RI he R rn rp rh) (hp : p < 112) (hT : 1 ≤ T) (hT' : T ≤ 5) (hb : ∀ x, tf x ≤ 5) (h0 : ∀ x, x < 448 → he x ≠ 0 → 1 ≤ tf (x / 16))
    (k1 : ∀ g, 1 ≤ g → g ≤ 5 → g ≠ T → (∃ x, x ∈ R (p / 4) ∧ he x = p ∧ tf (x / 16) = g) → post (nI g)) (k0 : (∀ x, x ∈ R (p / 4) → he x = p → tf (x / 16) = T) → post 0) : wpX_youngestHolder post (zk1, zk2, zk3, zk4, zrc, zmb, zft, zlt, ztc, zbk, zsk, zqc, zmt, zrl, zst, zra, zsr, zfo, zva, zso, na_A he, na_A rn, zrp, na_A tf, zcn, zcu, na_A rh, zth, ztt, ztk, zqu, zbo, zbp, zsl) (nI p) (nI T) := by
  have hc : p / 4 < 28 := by omega
  have len := rl_len h hc
  have e : nI p >>> ((2 : Int32) &&& 31) = nI (p / 4) := na_s2 (by omega)
  show vp_in (nI p >>> _) 28 ∧ ∀ y : Int32, y = na_A rh (nI p >>> _).toNatClampNeg → _
  rw [e]
  exact ⟨vp_in_nI hc (by omega), nm_r (e' := nI ((R (p / 4)).headD 0)) (by rw [na_rd (by omega), (h.2.2.1 _ hc).1]) ⟨449, lu_yh18 h hc hp hT hT' hb h0 k1 k0 (R (p / 4)) [] 449 0 0 0 rfl (by omega) (Or.inl ⟨rfl, rfl, fun y hy => nomatch hy⟩) (by omega) (by omega)⟩⟩
end LU
end
section
/-! the phases of a beat: pure -/
section PH
def rs_R (rc : Nat) (E : Nat → Nat → Nat) (Ro : Nat → Nat) (s : Nat) : Prop :=
  ∀ S : Nat → Prop, (∀ r, r < rc → ∀ t, Ro r = t + 1 → S t) → (∀ s f t, S s → f < 3 → E s f = t + 1 → S t) → S s
theorem rs_root {rc : Nat} {E : Nat → Nat → Nat} {Ro : Nat → Nat} {r t : Nat} (hr : r < rc) (e : Ro r = t + 1) : rs_R rc E Ro t := fun _ h1 _ => h1 r hr t e
theorem rs_link {rc : Nat} {E : Nat → Nat → Nat} {Ro : Nat → Nat} {s f t : Nat} (h : rs_R rc E Ro s) (hf : f < 3) (e : E s f = t + 1) : rs_R rc E Ro t := fun S h1 h2 => h2 s f t (h S h1 h2) hf e
def tr_rk (ft t : Nat) : Nat := (t + 5 - ft) % 5
def tr_G (ft lt tc : Nat) : Prop := 1 ≤ ft ∧ ft ≤ 5 ∧ 1 ≤ lt ∧ lt ≤ 5 ∧ 1 ≤ tc ∧ tc ≤ 5 ∧ (lt + 5 - ft) % 5 + 1 = tc
def ph_A (rc ft tc j g c bk : Nat) (E : Nat → Nat → Nat) (Ro bp0 : Nat → Nat) (L0 : Nat → List Nat) (tf0 cu0 : Nat → Nat) (bp : Nat → Nat) (L : Nat → List Nat) (tf cu : Nat → Nat) : Prop :=
  (∀ t, t < bk → (bp t = bp0 t ∨ (bp0 t ≠ 0 ∧ bp0 t / 4 = c ∧ bp t ≠ 0 ∧ bp t / 4 ≠ c ∧ tf (bp t / 4) ≠ ft))) ∧
  (∀ x, tf0 x ≠ 0 → tf x = tf0 x) ∧ L ft = L0 ft ∧ (∀ x, x ∈ L0 ft → cu x = cu0 x) ∧
  (∀ t, t < bk → bp t ≠ 0 → j ≤ tr_rk ft (tf (bp t / 4)) → rs_R rc E Ro t) ∧
  (∀ t, 1 ≤ t → t ≤ 5 → t ≠ g → (L t ≠ [] ↔ tr_rk ft t < tc))
variable {rc ft tc j g c bk s : Nat} {E : Nat → Nat → Nat} {Ro bp0 tf0 cu0 : Nat → Nat} {L0 : Nat → List Nat}
theorem tp_tf {L : Nat → List Nat} {tf cu : Nat → Nat} {L' : Nat → List Nat} {tf' cu' : Nat → Nat} {x i : Nat} (TP : tr_TP L tf cu g c L' tf' cu' x i) : ∀ y, tf y ≠ 0 → tf' y = tf y := by
  intro y hy
  rcases TP.2.2.2.2 with ⟨-, u2, u3, u4, u5, u6⟩ | ⟨u1, u2, u3, u4, u5, u6⟩
  · rw [u2]
  · have yx : y ≠ x := fun e => hy (e ▸ u1)
    rw [u5, na_un yx]
theorem tp_x {L : Nat → List Nat} {tf cu : Nat → Nat} {L' : Nat → List Nat} {tf' cu' : Nat → Nat} {x i : Nat} (hg : 1 ≤ g) (hg' : g ≤ 5) (hL : ∀ t x, 1 ≤ t → t ≤ 5 → (x ∈ L t ↔ 1 ≤ x ∧ x < 28 ∧ tf x = t)) (TP : tr_TP L tf cu g c L' tf' cu' x i) : tf' x = g := by
  rcases TP.2.2.2.2 with ⟨-, u2, u3, u4, u5, u6⟩ | ⟨u1, u2, u3, u4, u5, u6⟩
  · rw [u2, u4]; exact ((hL g _ hg hg').mp (rl_lam _ 0 u3)).2.2
  · rw [u5, na_us]
theorem tp_L {L : Nat → List Nat} {tf cu : Nat → Nat} {L' : Nat → List Nat} {tf' cu' : Nat → Nat} {x i t : Nat} (h : t ≠ g) (TP : tr_TP L tf cu g c L' tf' cu' x i) : L' t = L t := by
  rcases TP.2.2.2.2 with ⟨u1, -⟩ | ⟨u1, u2, u3, u4, u5, u6⟩
  · rw [u1]
  · rw [u4, tr_Ln h]
/-- moves out of the first train keep ph_A -/
theorem ph_Aq (hf : 1 ≤ ft) (hf' : ft ≤ 5) (hg : 1 ≤ g) (hg' : g ≤ 5) (hgT : g ≠ ft) (hS : j ≤ tr_rk ft g → rs_R rc E Ro s) : ev_Q bk c g s E (ph_A rc ft tc j g c bk E Ro bp0 L0 tf0 cu0) := by
  intro bp L tf cu t L' tf' cu' x i q A ht t0 tcc hh TP
  obtain ⟨q1, q2, q3, q4, q5, q6⟩ := q
  obtain ⟨A1, A2, A3, A4, A5, A6, A7⟩ := A
  have TF := tp_tf TP
  have TX : tf' x = g := tp_x hg hg' A4 TP
  have hxc := TP.2.2.1
  have hi4 := TP.2.2.2.1
  have e4 : (4 * x + i) / 4 = x := by omega
  have x1 := TP.1
  have hRt : j ≤ tr_rk ft g → rs_R rc E Ro t := fun hj => by
    rcases hh with hh | ⟨t', h1, h2, h3, h4, f, h5, h6⟩
    · rw [hh]; exact hS hj
    · exact rs_link (q5 t' h1 h2 (by rw [h3]; exact hj)) h5 h6
  refine ⟨fun u hu => ?_, fun y hy => ?_, ?_, fun y hy => ?_, fun u hu hu0 hj => ?_, fun u h1 h2 h3 => ?_⟩
  · by_cases z : u = t
    · subst z
      rw [na_us, e4, TX]
      rcases q1 u hu with e | e
      · exact Or.inr ⟨e ▸ t0, e ▸ tcc, by omega, hxc, hgT⟩
      · exact absurd tcc e.2.2.2.1
    · rw [na_un z]
      refine (q1 u hu).imp id (fun ⟨e1, e2, e3, e4, e5⟩ => ⟨e1, e2, e3, e4, ?_⟩)
      rw [TF _ (A1 u hu e3).2.2.1]
      exact e5
  · have := q2 y hy
    rw [TF y (by rw [this]; exact hy)]
    exact this
  · rw [tp_L (fun e => hgT e.symm) TP]; exact q3
  · have hyL : y ∈ L ft := by rw [q3]; exact hy
    have hyT := ((A4 ft y hf hf').mp hyL).2.2
    have : y ≠ x := fun e => by
      rcases TP.2.2.2.2 with ⟨-, u2, u3, u4, u5, u6⟩ | ⟨u1, u2, u3, u4, u5, u6⟩
      · have := ((A4 g _ hg hg').mp (rl_lam _ 0 u3)).2.2
        rw [← u4, ← e, hyT] at this
        exact hgT this.symm
      · rw [e, u1] at hyT
        omega
    rcases TP.2.2.2.2 with ⟨-, u2, u3, u4, u5, u6⟩ | ⟨u1, u2, u3, u4, u5, u6⟩
    · rw [u6, na_un this]; exact q4 y hy
    · rw [u6, na_un this]; exact q4 y hy
  · by_cases z : u = t
    · subst z
      rw [na_us, e4, TX] at hj
      exact hRt hj
    · rw [na_un z] at hu0 hj
      rw [TF _ (A1 u hu hu0).2.2.1] at hj
      exact q5 u hu hu0 hj
  · rw [tp_L h3 TP]; exact q6 u h1 h2 h3
theorem ph_A0 {bp : Nat → Nat} {L : Nat → List Nat} {tf cu : Nat → Nat} (h : ph_A rc ft tc j g c bk E Ro bp0 L0 tf0 cu0 bp L tf cu) (A : ab_W c bk E bp L tf cu) (hg : 1 ≤ g) (hg' : g ≤ 5) (hact : tr_rk ft g < tc) (hs : s < bk) (h0 : bp s ≠ 0) (hx : tf (bp s / 4) = g) : ph_A rc ft tc j 0 c bk E Ro bp0 L0 tf0 cu0 bp L tf cu := by
  obtain ⟨q1, q2, q3, q4, q5, q6⟩ := h
  refine ⟨q1, q2, q3, q4, q5, fun t h1 h2 _ => ?_⟩
  by_cases z : t = g
  · subst z
    refine ⟨fun _ => hact, fun _ e => ?_⟩
    obtain ⟨a1, a2, a3, a4, a5⟩ := A.1 s hs h0
    have : bp s / 4 ∈ L t := (A.2.2.2.1 t _ h1 h2).mpr ⟨by omega, by omega, hx⟩
    rw [e] at this
    exact nomatch this
  · exact q6 t h1 h2 z
theorem ph_Ag {bp : Nat → Nat} {L : Nat → List Nat} {tf cu : Nat → Nat} (h : ph_A rc ft tc j 0 c bk E Ro bp0 L0 tf0 cu0 bp L tf cu) : ph_A rc ft tc j g c bk E Ro bp0 L0 tf0 cu0 bp L tf cu := by
  obtain ⟨q1, q2, q3, q4, q5, q6⟩ := h
  exact ⟨q1, q2, q3, q4, q5, fun t h1 h2 _ => q6 t h1 h2 (by omega)⟩
/-! within the first train -/
def ph_B (ft c bk : Nat) (A' : List Nat) (bp2 : Nat → Nat) (L2 : Nat → List Nat) (tf2 : Nat → Nat) (bp : Nat → Nat) (L : Nat → List Nat) (tf cu : Nat → Nat) : Prop :=
  (∀ t, t < bk → (bp t = bp2 t ∨ (bp2 t ≠ 0 ∧ bp2 t / 4 = c ∧ bp t ≠ 0 ∧ bp t / 4 ≠ c ∧ tf (bp t / 4) = ft))) ∧
  (∀ x, tf2 x ≠ 0 → tf x = tf2 x) ∧ (∀ t, t ≠ ft → L t = L2 t) ∧ (∃ nw, L ft = L2 ft ++ nw) ∧
  (∀ x, x ∈ L ft → x ∉ A' → x ≠ c → (x = rl_la 0 (L ft) ∨ cu x = 4))
variable {bp2 tf2 : Nat → Nat} {L2 : Nat → List Nat} {A' : List Nat}
theorem ph_Bq (hf : 1 ≤ ft) (hf' : ft ≤ 5) : ev_Q bk c ft s E (ph_B ft c bk A' bp2 L2 tf2) := by
  intro bp L tf cu t L' tf' cu' x i q A ht t0 tcc hh TP
  obtain ⟨q1, q2, q3, q4, q5⟩ := q
  obtain ⟨A1, A2, A3, A4, A5, A6, A7⟩ := A
  have TF := tp_tf TP
  have TX : tf' x = ft := tp_x hf hf' A4 TP
  have hxc := TP.2.2.1
  have hi4 := TP.2.2.2.1
  have e4 : (4 * x + i) / 4 = x := by omega
  have x1 := TP.1
  refine ⟨fun u hu => ?_, fun y hy => ?_, fun u hu => ?_, ?_, fun y hy hy1 hy2 => ?_⟩
  · by_cases z : u = t
    · subst z
      rw [na_us, e4, TX]
      rcases q1 u hu with e | e
      · exact Or.inr ⟨e ▸ t0, e ▸ tcc, by omega, hxc, rfl⟩
      · exact absurd tcc e.2.2.2.1
    · rw [na_un z]
      refine (q1 u hu).imp id (fun ⟨e1, e2, e3, e4, e5⟩ => ⟨e1, e2, e3, e4, ?_⟩)
      rw [TF _ (A1 u hu e3).2.2.1]
      exact e5
  · have := q2 y hy
    rw [TF y (by rw [this]; exact hy)]
    exact this
  · rw [tp_L hu TP]; exact q3 u hu
  · obtain ⟨nw, e⟩ := q4
    rcases TP.2.2.2.2 with ⟨u1, -⟩ | ⟨u1, u2, u3, u4, u5, u6⟩
    · exact ⟨nw, by rw [u1, e]⟩
    · exact ⟨nw ++ [x], by rw [u4, tr_Ls, e, List.append_assoc]⟩
  · rcases TP.2.2.2.2 with ⟨u1, u2, u3, u4, u5, u6⟩ | ⟨u1, u2, u3, u4, u5, u6⟩
    · rw [u1] at hy ⊢
      by_cases z : y = x
      · exact Or.inl (z.trans u4)
      · rw [u6, na_un z]
        exact q5 y hy hy1 hy2
    · rw [u4, tr_Ls] at hy ⊢
      rw [tr_laa]
      by_cases z : y = x
      · exact Or.inl z
      · rw [u6, na_un z]
        rcases List.mem_append.mp hy with hy | hy
        · refine Or.inr ?_
          rcases q5 y hy hy1 hy2 with w | w
          · rcases u3 with u3 | u3 | u3
            · rw [u3] at hy; exact nomatch hy
            · exact absurd (w.trans u3) hy2
            · rw [w]; exact u3
          · exact w
        · rw [List.mem_singleton] at hy
          exact absurd hy z
end PH
end
section
/-! the phases of a beat: walks -/
section PW
variable {k1 k2 k3 k4 rl st : Int32} {rc mb ft lt tc bk sk qc mt : Nat} {ra sr fo so he rn rp tf cn cu rh th tt tk bo bp : Nat → Nat} {va qu sl : Nat → Int32} {c : Nat} {fc : Nat → Nat} {vl : Nat → Int32} {E : Nat → Nat → Nat} {Ro : Nat → Nat} {L R : Nat → List Nat} {bp0 tf0 cu0 bp2 tf2 : Nat → Nat} {L0 L2 : Nat → List Nat} {j : Nat} {A' : List Nat}
theorem ph_srb (W : mv_W c bk bo fc vl E Ro rc ra sr fo va so he R rn rp rh L tf cn cu th tt tk bp) {p : Nat} (hp : p < 112) : sr p < 2 ^ 31 := by
  by_cases z : sr p = 0
  · rw [z]; omega
  · obtain ⟨q1, q2, q3, q4, q5⟩ := W.1.2.1 p hp z
    have := (W.1.1 (so p) q1 (by rw [q2]; exact q5)).2.2.1
    rw [q2] at this
    rw [this]
    exact (W.2.2.2.1 _ q1).2
theorem ph_tf1 (W : mv_W c bk bo fc vl E Ro rc ra sr fo va so he R rn rp rh L tf cn cu th tt tk bp) : ∀ x, x < 448 → he x ≠ 0 → 1 ≤ tf (x / 16) := by
  intro x hx h0
  have h1 := (W.1.2.2.1 x hx h0).2
  have h2 := (W.1.2.1 (x / 4) (by omega) h1).2.2.1
  have e : x / 4 / 4 = x / 16 := by omega
  rw [e] at h2
  omega
theorem ph_cell (W : mv_W c bk bo fc vl E Ro rc ra sr fo va so he R rn rp rh L tf cn cu th tt tk bp) {h f p : Nat} (hh : h < bk) (h0 : bp h ≠ 0) (hf : f < 3) (e : hp_pl bp (E h f) = p) (p0 : p ≠ 0) (hp : p < 112) (hc : bp h / 4 ≠ p / 4) : (4 * bp h + f) ∈ R (p / 4) ∧ he (4 * bp h + f) = p ∧ (4 * bp h + f) / 16 = bp h / 4 := by
  obtain ⟨o1, o2, o3, o4, o5, o6, o7⟩ := W.1.1 h hh h0
  have e1 : he (4 * bp h + f) = p := by rw [(o7 f hf).1]; exact e
  have e2 : (4 * bp h + f) / 16 = bp h / 4 := by omega
  exact ⟨(W.2.2.1.2.2.2 (p / 4) _ (by omega)).mpr ⟨by omega, by rw [e1]; exact p0, by rw [e1], by rw [e2]; exact hc⟩, e1, e2⟩
theorem ph_hold (W : mv_W c bk bo fc vl E Ro rc ra sr fo va so he R rn rp rh L tf cn cu th tt tk bp) {x p d : Nat} (hd : d < 28) (hx : x ∈ R d) (e : he x = p) : ∃ h, h < bk ∧ bp h ≠ 0 ∧ bp h / 4 = x / 16 ∧ x / 16 ≠ d ∧ ∃ f, f < 3 ∧ hp_pl bp (E h f) = p := by
  obtain ⟨m1, m2, m3, m4⟩ := (W.2.2.1.2.2.2 d x hd).mp hx
  obtain ⟨n1, n2⟩ := W.1.2.2.1 x m1 m2
  obtain ⟨q1, q2, q3, q4, q5⟩ := W.1.2.1 (x / 4) (by omega) n2
  have h0 : bp (so (x / 4)) ≠ 0 := by rw [q2]; exact q5
  obtain ⟨o1, o2, o3, o4, o5, o6, o7⟩ := W.1.1 _ q1 h0
  refine ⟨so (x / 4), q1, h0, by rw [q2]; omega, m4, x % 4, n1, ?_⟩
  rw [← (o7 _ n1).1, q2]
  have : 4 * (x / 4) + x % 4 = x := by omega
  rw [this]
  exact e
/-- what a link asks of its target -/
theorem ph_tgt {e p : Nat} (T : hp_T bk bp e) (h : hp_pl bp e = p) (p0 : p ≠ 0) : ∃ t, e = t + 1 ∧ t < bk ∧ bp t = p := by
  cases e with
  | zero => rw [hp_0] at h; exact absurd h.symm p0
  | succ t =>
    rcases T with T | T
    · omega
    · exact ⟨t, rfl, by omega, h⟩
def ph_F (bk c : Nat) (bp bp' : Nat → Nat) : Prop := ∀ t, t < bk → (bp' t = bp t ∨ (bp t ≠ 0 ∧ bp t / 4 = c ∧ bp' t ≠ 0 ∧ bp' t / 4 ≠ c))
theorem ph_in {bp' : Nat → Nat} {e : Nat} (c1 : 1 ≤ c) (F : ph_F bk c bp bp') (T : hp_T bk bp' e) (h : hp_pl bp' e / 4 = c) : hp_pl bp e = hp_pl bp' e := by
  cases e with
  | zero => rw [hp_0] at h; omega
  | succ t =>
    rcases T with T | T
    · omega
    · rw [hp_1] at h ⊢
      rcases F t (by omega) with q | q
      · exact q.symm
      · exact absurd h q.2.2.2
theorem ph_out {bp' : Nat → Nat} {e : Nat} (c1 : 1 ≤ c) (F : ph_F bk c bp bp') (T : hp_T bk bp' e) (h : hp_pl bp e / 4 ≠ c) : hp_pl bp' e / 4 ≠ c := fun q => by
  rw [← ph_in c1 F T q] at q
  exact h q
/-- objects held by a root leave the car -/
theorem ph_W1 {post : SX → Prop} {tm : Nat} (c1 : 1 ≤ c) (c2 : c < 28)
    (K : ∀ (ra sr fo : Nat → Nat) (va : Nat → Int32) (so he : Nat → Nat) (R : Nat → List Nat) (rn rp rh : Nat → Nat) (L : Nat → List Nat) (tf cn cu th tt tk bp : Nat → Nat) (qu : Nat → Int32) (lt tc : Nat), mv_W c bk bo fc vl E Ro rc ra sr fo va so he R rn rp rh L tf cn cu th tt tk bp → tr_G ft lt tc → tm ≤ tc → ph_A rc ft tc j 0 c bk E Ro bp0 L0 tf0 cu0 bp L tf cu → (∀ r, r < rc → hp_pl bp (Ro r) / 4 ≠ c) → post (k1, k2, k3, k4, nI rc, nI mb, nI ft, nI lt, nI tc, nI bk, nI sk, nI qc, nI mt, rl, st, na_A ra, na_A sr, na_A fo, va, na_A so, na_A he, na_A rn, na_A rp, na_A tf, na_A cn, na_A cu, na_A rh, na_A th, na_A tt, na_A tk, qu, na_A bo, na_A bp, sl)) :
    ∀ (n r : Nat) (ra sr fo : Nat → Nat) (va : Nat → Int32) (so he : Nat → Nat) (R : Nat → List Nat) (rn rp rh : Nat → Nat) (L : Nat → List Nat) (tf cn cu th tt tk bp : Nat → Nat) (qu : Nat → Int32) (lt tc : Nat), r ≤ rc → rc - r < n → mv_W c bk bo fc vl E Ro rc ra sr fo va so he R rn rp rh L tf cn cu th tt tk bp → tr_G ft lt tc → tm ≤ tc → ph_A rc ft tc j 0 c bk E Ro bp0 L0 tf0 cu0 bp L tf cu → (∀ r', r' < r → hp_pl bp (Ro r') / 4 ≠ c) → wX_moveRootHeld_2 post (nI c) (nI ft) n (nI r) k1 k2 k3 k4 (nI rc) (nI mb) (nI ft) (nI lt) (nI tc) (nI bk) (nI sk) (nI qc) (nI mt) rl st (na_A ra) (na_A sr) (na_A fo) va (na_A so) (na_A he) (na_A rn) (na_A rp) (na_A tf) (na_A cn) (na_A cu) (na_A rh) (na_A th) (na_A tt) (na_A tk) qu (na_A bo) (na_A bp) sl := by
  intro n
  induction n with
  | zero => intro r ra sr fo va so he R rn rp rh L tf cn cu th tt tk bp qu lt tc _ h; omega
  | succ n ih =>
    intro r ra sr fo va so he R rn rp rh L tf cn cu th tt tk bp qu lt tc h1 h2 W G hm q hr
    have hrc : rc ≤ 8 := W.2.2.2.2.2
    rw [wX_moveRootHeld_2]
    refine pk_le rc r (fun z => ?_) (fun z => ?_)
    · have : r = rc := by omega
      subst this
      exact K ra sr fo va so he R rn rp rh L tf cn cu th tt tk bp qu lt tc W G hm q hr
    · obtain ⟨e, T⟩ := W.1.2.2.2.1 r z
      have hb := hp_rab W.1 r z
      refine ⟨vp_in_nI (by omega) (by omega), nm_r (na_rd (by omega)) ?_⟩
      rw [na_s2 (by omega)]
      by_cases w : ra r / 4 = c
      · refine br_t (congrArg nI w) ?_
        obtain ⟨s, es, hs, hp⟩ := ph_tgt T (p := ra r) e.symm (by omega)
        have h0 : bp s ≠ 0 := by rw [hp]; omega
        rw [← hp]
        rw [← hp] at w
        have step : ∀ (lt tc : Nat), tr_G ft lt tc → tm ≤ tc → lt ≠ ft → ph_A rc ft tc j lt c bk E Ro bp0 L0 tf0 cu0 bp L tf cu → wX_moveRootHeld_39 post (wX_moveRootHeld_2 post (nI c) (nI ft) n) (nI c) (nI ft) (nI r) (nI (bp s)) k1 k2 k3 k4 (nI rc) (nI mb) (nI ft) (nI lt) (nI tc) (nI bk) (nI sk) (nI qc) (nI mt) rl st (na_A ra) (na_A sr) (na_A fo) va (na_A so) (na_A he) (na_A rn) (na_A rp) (na_A tf) (na_A cn) (na_A cu) (na_A rh) (na_A th) (na_A tt) (na_A tk) qu (na_A bo) (na_A bp) sl := by
          intro lt tc G hm hl q
          obtain ⟨g1, g2, g3, g4, g5, g6, g7⟩ := G
          refine ev_ev (Q := ph_A rc ft tc j lt c bk E Ro bp0 L0 tf0 cu0) W hs h0 w g3 g4 (ph_Aq g1 g2 g3 g4 hl (fun _ => rs_root z es)) q (fun ra' sr' fo' va' so' he' R' rn' rp' rh' L' tf' cn' cu' th' tt' tk' bp' qu' W' q' f1 f2 f3 => nm_r (nI_1 r) ?_)
          have F : ph_F bk c bp bp' := fun t ht => (f2 t ht).imp id (fun a => ⟨a.1, a.2.1, a.2.2.1, a.2.2.2.1⟩)
          refine ih (r + 1) ra' sr' fo' va' so' he' R' rn' rp' rh' L' tf' cn' cu' th' tt' tk' bp' qu' lt tc (by omega) (by omega) W' ⟨g1, g2, g3, g4, g5, g6, g7⟩ hm (ph_A0 q' (ab_of W') g3 g4 (by show (lt + 5 - ft) % 5 < tc; omega) hs f3.1 f3.2.2) (fun r' hr' => ?_)
          by_cases v : r' = r
          · rw [v, es, hp_1]; exact f3.2.1
          · exact ph_out c1 F (W'.1.2.2.2.1 r' (by omega)).2 (hr r' (by omega))
        by_cases v : lt = ft
        · subst v
          obtain ⟨g1, g2, g3, g4, g5, g6, g7⟩ := G
          have tc1 : tc = 1 := by omega
          refine br_t rfl (tr_open g2 (by omega) ?_)
          rw [if_neg (by omega)]
          have nt := tr_nt1 (l := lt)
          have hn : tr_nt lt = lt + 1 ∨ (tr_nt lt = 1 ∧ lt = 5) := by
            unfold tr_nt
            by_cases u : lt < 5
            · rw [if_pos u]; exact Or.inl rfl
            · rw [if_neg u]; exact Or.inr ⟨rfl, by omega⟩
          refine step (tr_nt lt) (tc + 1) ⟨g1, g2, nt.1, nt.2, by omega, by omega, by omega⟩ (by omega) (by omega) ?_
          obtain ⟨q1, q2, q3, q4, q5, q6⟩ := q
          refine ⟨q1, q2, q3, q4, q5, fun t t1 t2 t3 => ?_⟩
          rw [q6 t t1 t2 (by omega)]
          show (t + 5 - lt) % 5 < tc ↔ (t + 5 - lt) % 5 < tc + 1
          omega
        · exact br_f (fun u => v ((nI_eq (by have := G.2.2.2.1; omega) (by have := G.2.1; omega)).mp u)) (step lt tc G hm v (ph_Ag q))
      · refine br_f (fun u => w ((nI_eq (by omega) (by omega)).mp u)) (nm_r (nI_1 r) (ih (r + 1) ra sr fo va so he R rn rp rh L tf cn cu th tt tk bp qu lt tc (by omega) (by omega) W G hm q (fun r' hr' => ?_)))
        by_cases v : r' = r
        · rw [v, ← e]; exact w
        · exact hr r' (by omega)
/-- objects held by another train leave the car -/
theorem ph_W2 {post : SX → Prop} (c1 : 1 ≤ c) (c2 : c < 28) (hct : tf0 c = ft) (hf : 1 ≤ ft) (hf' : ft ≤ 5)
    (K : ∀ (ra sr fo : Nat → Nat) (va : Nat → Int32) (so he : Nat → Nat) (R : Nat → List Nat) (rn rp rh : Nat → Nat) (L : Nat → List Nat) (tf cn cu th tt tk bp : Nat → Nat) (qu : Nat → Int32), mv_W c bk bo fc vl E Ro rc ra sr fo va so he R rn rp rh L tf cn cu th tt tk bp → ph_A rc ft tc j 0 c bk E Ro bp0 L0 tf0 cu0 bp L tf cu → (∀ r, r < rc → hp_pl bp (Ro r) / 4 ≠ c) → (∀ h, h < bk → bp h ≠ 0 → tf (bp h / 4) ≠ ft → ∀ f, f < 3 → hp_pl bp (E h f) / 4 ≠ c) → post (k1, k2, k3, k4, nI rc, nI mb, nI ft, nI lt, nI tc, nI bk, nI sk, nI qc, nI mt, rl, st, na_A ra, na_A sr, na_A fo, va, na_A so, na_A he, na_A rn, na_A rp, na_A tf, na_A cn, na_A cu, na_A rh, na_A th, na_A tt, na_A tk, qu, na_A bo, na_A bp, sl)) :
    ∀ (n s : Nat) (ra sr fo : Nat → Nat) (va : Nat → Int32) (so he : Nat → Nat) (R : Nat → List Nat) (rn rp rh : Nat → Nat) (L : Nat → List Nat) (tf cn cu th tt tk bp : Nat → Nat) (qu : Nat → Int32), s ≤ 4 → 4 - s < n → mv_W c bk bo fc vl E Ro rc ra sr fo va so he R rn rp rh L tf cn cu th tt tk bp → ph_A rc ft tc j 0 c bk E Ro bp0 L0 tf0 cu0 bp L tf cu → (∀ r, r < rc → hp_pl bp (Ro r) / 4 ≠ c) → (∀ i, i < s → ∀ h, h < bk → bp h ≠ 0 → tf (bp h / 4) ≠ ft → ∀ f, f < 3 → hp_pl bp (E h f) ≠ 4 * c + i) → wX_moveHeldByOtherTrains_2 post (nI c) (nI ft) n (nI s) k1 k2 k3 k4 (nI rc) (nI mb) (nI ft) (nI lt) (nI tc) (nI bk) (nI sk) (nI qc) (nI mt) rl st (na_A ra) (na_A sr) (na_A fo) va (na_A so) (na_A he) (na_A rn) (na_A rp) (na_A tf) (na_A cn) (na_A cu) (na_A rh) (na_A th) (na_A tt) (na_A tk) qu (na_A bo) (na_A bp) sl := by
  intro n
  induction n with
  | zero => intro s ra sr fo va so he R rn rp rh L tf cn cu th tt tk bp qu _ h; omega
  | succ n ih =>
    intro s ra sr fo va so he R rn rp rh L tf cn cu th tt tk bp qu h1 h2 W q hr hq
    have hcT : tf c = ft := by rw [q.2.1 c (by omega)]; exact hct
    rw [wX_moveHeldByOtherTrains_2]
    refine pk_le 4 s (fun z => ?_) (fun z => ?_)
    · refine K ra sr fo va so he R rn rp rh L tf cn cu th tt tk bp qu W q hr (fun h hh h0 ht f hf e => ?_)
      have := hq (hp_pl bp (E h f) % 4) (by omega) h hh h0 ht f hf
      omega
    · have sb := ph_srb W (p := 4 * c + s) (by omega)
      have ec : (4 * c + s) / 4 = c := by omega
      refine nm_r (na_m4 c s) ⟨vp_in_nI (by omega) (by omega), ?_⟩
      rw [na_rd (by omega)]
      by_cases w : sr (4 * c + s) = 0
      · refine br_t ((na_e0 sb).mpr w) (nm_r (nI_1 s) (ih (s + 1) ra sr fo va so he R rn rp rh L tf cn cu th tt tk bp qu (by omega) (by omega) W q hr (fun i hi h hh h0 ht f hf e => ?_)))
        by_cases v : i = s
        · subst v
          obtain ⟨t, -, t1, t2⟩ := ph_tgt ((W.1.1 h hh h0).2.2.2.2.2.2 f hf).2 e (by omega)
          have := (W.1.1 t t1 (by rw [t2]; omega)).2.2.1
          rw [t2, w] at this
          exact (W.2.2.2.1 t t1).1 this.symm
        · exact hq i (by omega) h hh h0 ht f hf e
      · refine br_f (fun u => w ((na_e0 sb).mp u)) ?_
        obtain ⟨p1, p2, p3, p4, p5⟩ := W.1.2.1 (4 * c + s) (by omega) w
        refine lu_yh W.2.2.1 (by omega) hf hf' W.2.1.2.2.1 (ph_tf1 W) (fun g g1 g2 g3 g4 => ?_) (fun g0 => ?_)
        · refine br_f (nI_ne0 (by omega) (by omega)) ?_
          obtain ⟨x, x1, x2, x3⟩ := g4
          obtain ⟨h, hh, h0, h3, h4, f, hf3, h5⟩ := ph_hold W (by omega) x1 x2
          obtain ⟨t, t0, t1, t2⟩ := ph_tgt ((W.1.1 h hh h0).2.2.2.2.2.2 f hf3).2 h5 p5
          rw [← t2]
          refine ev_ev (Q := ph_A rc ft tc j g c bk E Ro bp0 L0 tf0 cu0) W t1 (by rw [t2]; exact p5) (by rw [t2]; exact ec) g1 g2 (ph_Aq hf hf' g1 g2 g3 (fun jj => rs_link (q.2.2.2.2.1 h hh h0 (by rw [h3, x3]; exact jj)) hf3 t0)) (ph_Ag q) (fun ra' sr' fo' va' so' he' R' rn' rp' rh' L' tf' cn' cu' th' tt' tk' bp' qu' W' q' f1 f2 f3 => nm_r (nI_1 s) ?_)
          have F : ph_F bk c bp bp' := fun t ht => (f2 t ht).imp id (fun a => ⟨a.1, a.2.1, a.2.2.1, a.2.2.2.1⟩)
          have hact : tr_rk ft g < tc := by
            refine (q.2.2.2.2.2 g g1 g2 (by omega)).mp (fun e => ?_)
            obtain ⟨a1, a2, a3, a4, a5⟩ := (ab_of W).1 h hh h0
            have : bp h / 4 ∈ L g := (W.2.1.2.1 g _ g1 g2).mpr ⟨by omega, by omega, by rw [h3]; exact x3⟩
            rw [e] at this
            exact nomatch this
          refine ih (s + 1) ra' sr' fo' va' so' he' R' rn' rp' rh' L' tf' cn' cu' th' tt' tk' bp' qu' (by omega) (by omega) W' (ph_A0 q' (ab_of W') g1 g2 hact t1 f3.1 f3.2.2) (fun r hr' => ph_out c1 F (W'.1.2.2.2.1 r hr').2 (hr r hr')) (fun i hi h' hh' h0' ht' f' hf' e => ?_)
          have e4 : hp_pl bp' (E h' f') / 4 = c := by rw [e]; omega
          have T' := ((W'.1.1 h' hh' h0').2.2.2.2.2.2 f' hf').2
          have e5 := ph_in c1 F T' e4
          rcases f2 h' hh' with u | u
          · rw [u] at h0' ht'
            rw [f1 _ ((ab_of W).1 h' hh' h0').2.2.1] at ht'
            by_cases v : i = s
            · subst v
              obtain ⟨t', t0', t1', t2'⟩ := ph_tgt T' e p5
              rw [t0', hp_1] at e5
              have ett : t' = t := (ab_of W).2.1 t' t t1' t1 (by rw [e5]; show bp' t' ≠ 0; rw [t2']; exact p5) (by rw [e5]; show bp' t' = bp t; rw [t2', t2])
              subst ett
              exact f3.2.1 (by rw [t2']; exact ec)
            · exact hq i (by omega) h' hh' h0' ht' f' hf' (e5.trans e)
          · exact u.2.2.2.2.2 f' hf' e4
        · refine br_t rfl (nm_r (nI_1 s) (ih (s + 1) ra sr fo va so he R rn rp rh L tf cn cu th tt tk bp qu (by omega) (by omega) W q hr (fun i hi h hh h0 ht f hf e => ?_)))
          by_cases v : i = s
          · subst v
            obtain ⟨x1, x2, x3⟩ := ph_cell W hh h0 hf e p5 (by omega) (fun u => ht (by rw [u, ec]; exact hcT))
            have := g0 _ x1 x2
            rw [x3] at this
            exact ht this
          · exact hq i (by omega) h hh h0 ht f hf e
/-- objects held from other cars of the train go to its end -/
theorem ph_W3 {post : SX → Prop} (c1 : 1 ≤ c) (c2 : c < 28) (hf : 1 ≤ ft) (hf' : ft ≤ 5)
    (K : ∀ (ra sr fo : Nat → Nat) (va : Nat → Int32) (so he : Nat → Nat) (R : Nat → List Nat) (rn rp rh : Nat → Nat) (L : Nat → List Nat) (tf cn cu th tt tk bp : Nat → Nat) (qu : Nat → Int32), mv_W c bk bo fc vl E Ro rc ra sr fo va so he R rn rp rh L tf cn cu th tt tk bp → ph_B ft c bk A' bp2 L2 tf2 bp L tf cu → (∀ r, r < rc → hp_pl bp (Ro r) / 4 ≠ c) → (∀ h, h < bk → bp h ≠ 0 → bp h / 4 ≠ c → ∀ f, f < 3 → hp_pl bp (E h f) / 4 ≠ c) → post (k1, k2, k3, k4, nI rc, nI mb, nI ft, nI lt, nI tc, nI bk, nI sk, nI qc, nI mt, rl, st, na_A ra, na_A sr, na_A fo, va, na_A so, na_A he, na_A rn, na_A rp, na_A tf, na_A cn, na_A cu, na_A rh, na_A th, na_A tt, na_A tk, qu, na_A bo, na_A bp, sl)) :
    ∀ (n s : Nat) (ra sr fo : Nat → Nat) (va : Nat → Int32) (so he : Nat → Nat) (R : Nat → List Nat) (rn rp rh : Nat → Nat) (L : Nat → List Nat) (tf cn cu th tt tk bp : Nat → Nat) (qu : Nat → Int32), s ≤ 4 → 4 - s < n → mv_W c bk bo fc vl E Ro rc ra sr fo va so he R rn rp rh L tf cn cu th tt tk bp → ph_B ft c bk A' bp2 L2 tf2 bp L tf cu → (∀ r, r < rc → hp_pl bp (Ro r) / 4 ≠ c) → (∀ i, i < s → ∀ h, h < bk → bp h ≠ 0 → bp h / 4 ≠ c → ∀ f, f < 3 → hp_pl bp (E h f) ≠ 4 * c + i) → wX_moveHeldBySameTrain_2 post (nI c) (nI ft) n (nI s) k1 k2 k3 k4 (nI rc) (nI mb) (nI ft) (nI lt) (nI tc) (nI bk) (nI sk) (nI qc) (nI mt) rl st (na_A ra) (na_A sr) (na_A fo) va (na_A so) (na_A he) (na_A rn) (na_A rp) (na_A tf) (na_A cn) (na_A cu) (na_A rh) (na_A th) (na_A tt) (na_A tk) qu (na_A bo) (na_A bp) sl := by
  intro n
  induction n with
  | zero => intro s ra sr fo va so he R rn rp rh L tf cn cu th tt tk bp qu _ h; omega
  | succ n ih =>
    intro s ra sr fo va so he R rn rp rh L tf cn cu th tt tk bp qu h1 h2 W q hr hq
    rw [wX_moveHeldBySameTrain_2]
    refine pk_le 4 s (fun z => ?_) (fun z => ?_)
    · refine K ra sr fo va so he R rn rp rh L tf cn cu th tt tk bp qu W q hr (fun h hh h0 ht f hf e => ?_)
      have := hq (hp_pl bp (E h f) % 4) (by omega) h hh h0 ht f hf
      omega
    · have sb := ph_srb W (p := 4 * c + s) (by omega)
      have ec : (4 * c + s) / 4 = c := by omega
      refine nm_r (na_m4 c s) ⟨vp_in_nI (by omega) (by omega), ?_⟩
      rw [na_rd (by omega)]
      by_cases w : sr (4 * c + s) = 0
      · refine br_t ((na_e0 sb).mpr w) (nm_r (nI_1 s) (ih (s + 1) ra sr fo va so he R rn rp rh L tf cn cu th tt tk bp qu (by omega) (by omega) W q hr (fun i hi h hh h0 ht f hf e => ?_)))
        by_cases v : i = s
        · subst v
          obtain ⟨t, -, t1, t2⟩ := ph_tgt ((W.1.1 h hh h0).2.2.2.2.2.2 f hf).2 e (by omega)
          have := (W.1.1 t t1 (by rw [t2]; omega)).2.2.1
          rw [t2, w] at this
          exact (W.2.2.2.1 t t1).1 this.symm
        · exact hq i (by omega) h hh h0 ht f hf e
      · refine br_f (fun u => w ((na_e0 sb).mp u)) ?_
        obtain ⟨p1, p2, p3, p4, p5⟩ := W.1.2.1 (4 * c + s) (by omega) w
        refine lu_hc W.2.2.1 (by omega) (fun g4 => ?_) (fun g0 => ?_)
        · refine br_f (by decide) ?_
          have ht0 : so (4 * c + s) < bk := p1
          generalize so (4 * c + s) = t at p1 p2 ht0
          rw [← p2]
          refine ev_ev (Q := ph_B ft c bk A' bp2 L2 tf2) W p1 (by rw [p2]; exact p5) (by rw [p2]; exact ec) hf hf' (ph_Bq hf hf') q (fun ra' sr' fo' va' so' he' R' rn' rp' rh' L' tf' cn' cu' th' tt' tk' bp' qu' W' q' f1 f2 f3 => nm_r (nI_1 s) ?_)
          have F : ph_F bk c bp bp' := fun t ht => (f2 t ht).imp id (fun a => ⟨a.1, a.2.1, a.2.2.1, a.2.2.2.1⟩)
          refine ih (s + 1) ra' sr' fo' va' so' he' R' rn' rp' rh' L' tf' cn' cu' th' tt' tk' bp' qu' (by omega) (by omega) W' q' (fun r hr' => ph_out c1 F (W'.1.2.2.2.1 r hr').2 (hr r hr')) (fun i hi h' hh' h0' ht' f' hf' e => ?_)
          have e4 : hp_pl bp' (E h' f') / 4 = c := by rw [e]; omega
          have T' := ((W'.1.1 h' hh' h0').2.2.2.2.2.2 f' hf').2
          have e5 := ph_in c1 F T' e4
          rcases f2 h' hh' with u | u
          · rw [u] at h0' ht'
            by_cases v : i = s
            · subst v
              obtain ⟨t', t0', t1', t2'⟩ := ph_tgt T' e p5
              rw [t0', hp_1] at e5
              have ett : t' = t := (ab_of W).2.1 t' t t1' p1 (by rw [e5]; show bp' t' ≠ 0; rw [t2']; exact p5) (by rw [e5]; show bp' t' = bp t; rw [t2', p2])
              subst ett
              exact f3.2.1 (by rw [t2']; exact ec)
            · exact hq i (by omega) h' hh' h0' ht' f' hf' (e5.trans e)
          · exact u.2.2.2.2.2 f' hf' e4
        · refine br_t rfl (nm_r (nI_1 s) (ih (s + 1) ra sr fo va so he R rn rp rh L tf cn cu th tt tk bp qu (by omega) (by omega) W q hr (fun i hi h hh h0 ht f hf e => ?_)))
          by_cases v : i = s
          · subst v
            obtain ⟨x1, x2, x3⟩ := ph_cell W hh h0 hf e p5 (by omega) (fun u => ht (by rw [u, ec]))
            exact g0 _ x1 x2
          · exact hq i (by omega) h hh h0 ht f hf e
end PW
end
section
/-! objects dropped, cars and trains given back -/
section DR
def dr_T (D : Nat → Prop) (bk : Nat) (bp : Nat → Nat) (e : Nat) : Prop := e = 0 ∨ (e ≤ bk ∧ bp (e - 1) ≠ 0 ∧ ¬ D (bp (e - 1) / 4))
def dr_D (D : Nat → Prop) (bk : Nat) (bo fc : Nat → Nat) (vl : Nat → Int32) (E : Nat → Nat → Nat) (Ro : Nat → Nat) (rc : Nat) (ra sr fo : Nat → Nat) (va : Nat → Int32) (so he bp tf cu : Nat → Nat) : Prop :=
  (∀ s, s < bk → bp s ≠ 0 → 4 ≤ bp s ∧ bp s < 112 ∧ sr (bp s) = bo s ∧ so (bp s) = s ∧ fo (bp s) = fc s ∧ va (bp s) = vl s ∧ (¬ D (bp s / 4) → ∀ f, f < 3 → he (4 * bp s + f) = hp_pl bp (E s f) ∧ dr_T D bk bp (E s f))) ∧
  (∀ p, p < 112 → sr p ≠ 0 → so p < bk ∧ bp (so p) = p ∧ tf (p / 4) ≠ 0 ∧ p % 4 < cu (p / 4) ∧ p ≠ 0) ∧
  (∀ x, x < 448 → he x ≠ 0 → x % 4 < 3 ∧ sr (x / 4) ≠ 0) ∧
  (∀ r, r < rc → ra r = hp_pl bp (Ro r) ∧ dr_T D bk bp (Ro r)) ∧
  (∀ x, 1 ≤ x → x < 28 → tf x ≠ 0 → ¬ D x → 1 ≤ cu x ∧ ∀ i, i < cu x → sr (4 * x + i) ≠ 0)
variable {c bk rc : Nat} {bo fc : Nat → Nat} {vl : Nat → Int32} {E : Nat → Nat → Nat} {Ro ra sr fo so he bp tf cu : Nat → Nat} {va : Nat → Int32} {D : Nat → Prop}
theorem dr_tt {e : Nat} (T : hp_T bk bp e) (h : hp_pl bp e ≠ 0 → ¬ D (hp_pl bp e / 4)) : dr_T D bk bp e := by
  cases e with
  | zero => exact Or.inl rfl
  | succ t =>
    rcases T with T | T
    · omega
    · exact Or.inr ⟨T.1, T.2, h T.2⟩
theorem dr_th {e : Nat} (T : dr_T D bk bp e) : hp_T bk bp e := T.imp id (fun h => ⟨h.1, h.2.1⟩)
theorem dr_of (H : hp_H c bk bo fc vl E Ro rc ra sr fo va so he bp tf cu) (h1 : ∀ r, r < rc → hp_pl bp (Ro r) ≠ 0 → ¬ D (hp_pl bp (Ro r) / 4)) (h2 : ∀ h, h < bk → bp h ≠ 0 → ¬ D (bp h / 4) → ∀ f, f < 3 → hp_pl bp (E h f) ≠ 0 → ¬ D (hp_pl bp (E h f) / 4)) (h3 : ∀ x, 1 ≤ x → ¬ D x → x ≠ c) : dr_D D bk bo fc vl E Ro rc ra sr fo va so he bp tf cu := by
  obtain ⟨a1, a2, a3, a4, a5⟩ := H
  refine ⟨fun s hs h0 => ?_, a2, a3, fun r hr => ?_, fun x x1 x2 x3 x4 => a5 x x1 x2 x3 (h3 x x1 x4)⟩
  · obtain ⟨o1, o2, o3, o4, o5, o6, o7⟩ := a1 s hs h0
    exact ⟨o1, o2, o3, o4, o5, o6, fun hd f hf => ⟨(o7 f hf).1, dr_tt (o7 f hf).2 (h2 s hs h0 hd f hf)⟩⟩
  · exact ⟨(a4 r hr).1, dr_tt (a4 r hr).2 (h1 r hr)⟩
theorem dr_nd (H : dr_D D bk bo fc vl E Ro rc ra sr fo va so he bp tf cu) (hB : ∀ s, s < bk → bo s ≠ 0 ∧ bo s < 2 ^ 31) (h : ∀ x, D x → tf x = 0) : ∀ s, s < bk → bp s ≠ 0 → ¬ D (bp s / 4) := by
  intro s hs h0 hd
  obtain ⟨a1, a2, a3, a4, a5⟩ := H
  obtain ⟨o1, o2, o3, o4, o5, o6, o7⟩ := a1 s hs h0
  exact (a2 (bp s) o2 (by rw [o3]; exact (hB s hs).1)).2.2.1 (h _ hd)
theorem dr_to (H : dr_D D bk bo fc vl E Ro rc ra sr fo va so he bp tf cu) (hB : ∀ s, s < bk → bo s ≠ 0 ∧ bo s < 2 ^ 31) (h : ∀ x, D x → tf x = 0) : hp_H 0 bk bo fc vl E Ro rc ra sr fo va so he bp tf cu := by
  have nd := dr_nd H hB h
  obtain ⟨a1, a2, a3, a4, a5⟩ := H
  refine ⟨fun s hs h0 => ?_, a2, a3, fun r hr => ⟨(a4 r hr).1, dr_th (a4 r hr).2⟩, fun x x1 x2 x3 _ => a5 x x1 x2 x3 (fun q => x3 (h x q))⟩
  obtain ⟨o1, o2, o3, o4, o5, o6, o7⟩ := a1 s hs h0
  exact ⟨o1, o2, o3, o4, o5, o6, fun f hf => ⟨(o7 (nd s hs h0) f hf).1, dr_th (o7 (nd s hs h0) f hf).2⟩⟩
theorem dr_drop {p : Nat} {he' : Nat → Nat} (H : dr_D D bk bo fc vl E Ro rc ra sr fo va so he bp tf cu) (ha4 : ∀ y, cu y ≤ 4) (hp : p < 112) (h0 : sr p ≠ 0) (hD : D (p / 4)) (hh : ∀ y, y < 448 → he' y = if y / 4 = p ∧ y % 4 < 3 then 0 else he y) :
    dr_D D bk bo fc vl E Ro rc ra (na_u sr p 0) (na_u fo p 0) (upd va p 0) (na_u so p 0) he' (na_u bp (so p) 0) tf cu := by
  obtain ⟨a1, a2, a3, a4, a5⟩ := H
  obtain ⟨p1, p2, p3, p4, p5⟩ := a2 p hp h0
  have tg : ∀ e, dr_T D bk bp e → hp_pl bp e = hp_pl (na_u bp (so p) 0) e ∧ dr_T D bk (na_u bp (so p) 0) e := fun e T => by
    cases e with
    | zero => exact ⟨rfl, Or.inl rfl⟩
    | succ t =>
      rcases T with T | ⟨t1, t2, t3⟩
      · omega
      · have t2' : bp t ≠ 0 := t2
        have t3' : ¬ D (bp t / 4) := t3
        have ht : t ≠ so p := fun q => t3' (by rw [q, p2]; exact hD)
        have e1 : na_u bp (so p) 0 t = bp t := na_un ht
        exact ⟨by rw [hp_1, hp_1, e1], Or.inr ⟨t1, by show na_u bp (so p) 0 t ≠ 0; rw [e1]; exact t2', by show ¬ D (na_u bp (so p) 0 t / 4); rw [e1]; exact t3'⟩⟩
  refine ⟨fun s hs s0 => ?_, fun q hq q0 => ?_, fun y hy y0 => ?_, fun r hr => ?_, fun x x1 x2 x3 x4 => ?_⟩
  · by_cases z : s = so p
    · rw [z, na_us] at s0; exact absurd rfl s0
    · rw [na_un z] at s0 ⊢
      obtain ⟨o1, o2, o3, o4, o5, o6, o7⟩ := a1 s hs s0
      have hne : bp s ≠ p := fun q => z (by rw [← o4, q])
      refine ⟨o1, o2, by rw [na_un hne, o3], by rw [na_un hne, o4], by rw [na_un hne, o5], by rw [pk_un hne, o6], fun hd f hf => ?_⟩
      obtain ⟨v1, v2⟩ := o7 hd f hf
      obtain ⟨w1, w2⟩ := tg _ v2
      refine ⟨?_, w2⟩
      rw [hh _ (by omega), if_neg (by omega), v1, w1]
  · by_cases z : q = p
    · rw [z, na_us] at q0; exact absurd rfl q0
    · rw [na_un z] at q0 ⊢
      obtain ⟨q1, q2, q3, q4, q5⟩ := a2 q hq q0
      have hne : so q ≠ so p := fun e => z (by rw [← q2, e, p2])
      exact ⟨q1, by rw [na_un hne]; exact q2, q3, q4, q5⟩
  · rw [hh y hy] at y0
    by_cases z : y / 4 = p ∧ y % 4 < 3
    · rw [if_pos z] at y0; exact absurd rfl y0
    · rw [if_neg z] at y0
      obtain ⟨m1, m2⟩ := a3 y hy y0
      exact ⟨m1, by rw [na_un (fun q => z ⟨q, m1⟩)]; exact m2⟩
  · obtain ⟨v1, v2⟩ := a4 r hr
    obtain ⟨w1, w2⟩ := tg _ v2
    exact ⟨v1.trans w1, w2⟩
  · obtain ⟨k1, k2⟩ := a5 x x1 x2 x3 x4
    refine ⟨k1, fun i hi => ?_⟩
    by_cases z : 4 * x + i = p
    · have := ha4 x
      have e : p / 4 = x := by omega
      exact absurd (e ▸ hD) x4
    · rw [na_un z]; exact k2 i hi
theorem dr_free {x : Nat} (H : dr_D D bk bo fc vl E Ro rc ra sr fo va so he bp tf cu) (hD : D x) (h : ∀ i, i < 4 → sr (4 * x + i) = 0) : dr_D D bk bo fc vl E Ro rc ra sr fo va so he bp (na_u tf x 0) (na_u cu x 0) := by
  obtain ⟨a1, a2, a3, a4, a5⟩ := H
  refine ⟨a1, fun p hp h0 => ?_, a3, a4, fun y y1 y2 y3 y4 => ?_⟩
  · have : p / 4 ≠ x := fun q => h0 (by
      have := h (p % 4) (by omega)
      have e : 4 * x + p % 4 = p := by omega
      rw [e] at this
      exact this)
    rw [na_un this, na_un this]
    exact a2 p hp h0
  · have : y ≠ x := fun q => y4 (q ▸ hD)
    rw [na_un this] at y3 ⊢
    exact a5 y y1 y2 y3 y4
def tr_S (L : Nat → List Nat) (T : Nat) (l : List Nat) : Nat → List Nat := fun s => if s = T then l else L s
theorem tr_Ss {L : Nat → List Nat} {T : Nat} {l : List Nat} : tr_S L T l T = l := if_pos rfl
theorem tr_Sn {L : Nat → List Nat} {T s : Nat} {l : List Nat} (h : s ≠ T) : tr_S L T l s = L s := if_neg h
theorem tr_rel {L : Nat → List Nat} {cn th tt tk : Nat → Nat} {T x : Nat} {l : List Nat} (h : tr_TI T L tf cn cu th tt tk) (hT : 1 ≤ T) (hT' : T ≤ 5) (e : L T = x :: l) : tr_TI T (tr_S L T l) (na_u tf x 0) (na_u cn x 0) (na_u cu x 0) th tt tk := by
  obtain ⟨a1, a2, a3, a4⟩ := h
  have hx : x ∈ L T := by rw [e]; exact List.mem_cons_self
  have hx' := (a2 T x hT hT').mp hx
  obtain ⟨b1, b2, b3⟩ := a1 T hT hT'
  rw [e] at b1 b2
  have b1' := List.nodup_cons.mp b1
  refine ⟨fun t t1 t2 => ?_, fun t y t1 t2 => ?_, fun y => ?_, fun y => ?_⟩
  · by_cases z : t = T
    · subst z
      rw [tr_Ss]
      exact ⟨b1'.2, tr_nxf _ (fun y hy => na_un (fun q => b1'.1 (q ▸ hy))) b2.2, fun q => absurd rfl q⟩
    · rw [tr_Sn z]
      obtain ⟨c1, c2, c3⟩ := a1 t t1 t2
      refine ⟨c1, tr_nxf _ (fun y hy => na_un (fun q => z ?_)) c2, c3⟩
      rw [← ((a2 t y t1 t2).mp hy).2.2, q]
      exact hx'.2.2
  · by_cases z : t = T
    · subst z
      rw [tr_Ss]
      by_cases q : y = x
      · subst q
        rw [na_us]
        exact ⟨fun r => absurd r b1'.1, fun r => by omega⟩
      · rw [na_un q, ← a2 t y t1 t2, e, List.mem_cons]
        exact ⟨Or.inr, fun r => r.elim (fun r => absurd r q) id⟩
    · rw [tr_Sn z]
      by_cases q : y = x
      · subst q
        rw [na_us]
        refine ⟨fun r => absurd ?_ z, fun r => by omega⟩
        rw [← ((a2 t y t1 t2).mp r).2.2]
        exact hx'.2.2
      · rw [na_un q]
        exact a2 t y t1 t2
  · by_cases q : y = x
    · subst q; rw [na_us]; omega
    · rw [na_un q]; exact a3 y
  · by_cases q : y = x
    · subst q; rw [na_us]; omega
    · rw [na_un q]; exact a4 y
theorem tr_ex {L : Nat → List Nat} {cn th tt tk th' tk' : Nat → Nat} {T : Nat} (h : tr_TI 0 L tf cn cu th tt tk) (h1 : ∀ t, t ≠ T → th' t = th t) (h2 : ∀ t, t ≠ T → tk' t = tk t) : tr_TI T L tf cn cu th' tt tk' := by
  obtain ⟨a1, a2, a3, a4⟩ := h
  refine ⟨fun t t1 t2 => ?_, a2, a3, a4⟩
  obtain ⟨b1, b2, b3⟩ := a1 t t1 t2
  refine ⟨b1, b2, fun q => ?_⟩
  rw [h1 t q, h2 t q]
  exact b3 (by omega)
theorem tr_fix {L : Nat → List Nat} {cn th tt tk th' tt' tk' : Nat → Nat} {T : Nat} (h : tr_TI T L tf cn cu th tt tk) (h1 : ∀ t, t ≠ T → th' t = th t ∧ tt' t = tt t ∧ tk' t = tk t) (h2 : th' T = (L T).headD 0 ∧ tt' T = rl_la 0 (L T) ∧ tk' T = (L T).length) : tr_TI 0 L tf cn cu th' tt' tk' := by
  obtain ⟨a1, a2, a3, a4⟩ := h
  refine ⟨fun t t1 t2 => ?_, a2, a3, a4⟩
  obtain ⟨b1, b2, b3⟩ := a1 t t1 t2
  refine ⟨b1, b2, fun _ => ?_⟩
  by_cases q : t = T
  · subst q; exact h2
  · obtain ⟨e1, e2, e3⟩ := h1 t q
    rw [e1, e2, e3]
    exact b3 q
def dr_z (he : Nat → Nat) (p : Nat) : Nat → Nat → Nat
  | 0 => he
  | f + 1 => na_u (dr_z he p f) (4 * p + f) 0
theorem dr_zs {p : Nat} : ∀ f, f ≤ 3 → ∀ x, dr_z he p f x = if x / 4 = p ∧ x % 4 < f then 0 else he x := by
  intro f
  induction f with
  | zero => intro _ x; rw [if_neg (by omega)]; rfl
  | succ f ih =>
    intro hf x
    show na_u (dr_z he p f) (4 * p + f) 0 x = _
    by_cases a : x = 4 * p + f
    · rw [if_pos (by omega), a, na_us]
    · rw [na_un a, ih (by omega)]
      by_cases b : x / 4 = p ∧ x % 4 < f
      · rw [if_pos b, if_pos (by omega)]
      · rw [if_neg b, if_neg (by omega)]
end DR
section DRW
variable {k1 k2 k3 k4 rl st : Int32} {rc mb ft lt tc bk sk qc mt : Nat} {ra sr fo so he rn rp tf cn cu rh th tt tk bo bp : Nat → Nat} {va qu sl : Nat → Int32} {c : Nat} {fc : Nat → Nat} {vl : Nat → Int32} {E : Nat → Nat → Nat} {Ro : Nat → Nat} {L R : Nat → List Nat} {D : Nat → Prop}
theorem dr_obj2 {post : SX → Prop} {p : Nat} (hp : 4 ≤ p) (hp' : p < 112) (hs : so p < 24)
    (K : ∀ R' rn' rp' rh', rl_RI (dr_z he p 3) R' rn' rp' rh' → post (k1, k2, k3, k4, nI rc, nI mb, nI ft, nI lt, nI tc, nI bk, nI sk, nI qc, nI mt, rl, st, na_A ra, na_A (na_u sr p 0), na_A (na_u fo p 0), upd va p 0, na_A (na_u so p 0), na_A (dr_z he p 3), na_A rn', na_A rp', na_A tf, na_A cn, na_A cu, na_A rh', na_A th, na_A tt, na_A tk, qu, na_A bo, na_A (na_u bp (so p) 0), sl)) :
    ∀ d f n R rn rp rh, f + d = 3 → d < n → rl_RI (dr_z he p f) R rn rp rh → wX_dropObject_2 post (nI p) n (nI f) k1 k2 k3 k4 (nI rc) (nI mb) (nI ft) (nI lt) (nI tc) (nI bk) (nI sk) (nI qc) (nI mt) rl st (na_A ra) (na_A sr) (na_A fo) va (na_A so) (na_A (dr_z he p f)) (na_A rn) (na_A rp) (na_A tf) (na_A cn) (na_A cu) (na_A rh) (na_A th) (na_A tt) (na_A tk) qu (na_A bo) (na_A bp) sl := by
  intro d
  induction d with
  | zero =>
    intro f n R rn rp rh h1 h2 h3
    obtain ⟨n, rfl⟩ : ∃ m, n = m + 1 := ⟨n - 1, by omega⟩
    have : f = 3 := by omega
    subst this
    rw [wX_dropObject_2]
    refine br_t (nI_le (a := 3) (b := 3) (by omega) (by omega)) ⟨vp_in_nI hp' (by omega), ?_⟩
    rw [na_rd (by omega)]
    exact ⟨vp_in_nI hs (by omega), nm_r (na_wr (v := 0) (by omega)) (cp_clear hp' (K R rn rp rh h3))⟩
  | succ d ih =>
    intro f n R rn rp rh h1 h2 h3
    obtain ⟨n, rfl⟩ : ∃ m, n = m + 1 := ⟨n - 1, by omega⟩
    rw [wX_dropObject_2]
    refine br_f (nI_ge (b := 3) (by omega) (by omega)) ?_
    rw [na_m4]
    exact lk_set (t := 0) h3 (by omega) (by omega) (by omega) (fun rn1 rp1 rh1 H1 => nm_r (nI_1 f) (ih (f + 1) n _ rn1 rp1 rh1 (by omega) (by omega) H1))
theorem dr_obj {post : SX → Prop} {p : Nat} (H : dr_D D bk bo fc vl E Ro rc ra sr fo va so he bp tf cu) (RI : rl_RI he R rn rp rh) (ha4 : ∀ y, cu y ≤ 4) (hB : ∀ s, s < bk → bo s ≠ 0 ∧ bo s < 2 ^ 31) (hk : bk ≤ 24) (hp : p < 112) (h0 : sr p ≠ 0) (hD : D (p / 4))
    (K : ∀ fo' va' so' he' R' rn' rp' rh', dr_D D bk bo fc vl E Ro rc ra (na_u sr p 0) fo' va' so' he' (na_u bp (so p) 0) tf cu → rl_RI he' R' rn' rp' rh' → post (k1, k2, k3, k4, nI rc, nI mb, nI ft, nI lt, nI tc, nI bk, nI sk, nI qc, nI mt, rl, st, na_A ra, na_A (na_u sr p 0), na_A fo', va', na_A so', na_A he', na_A rn', na_A rp', na_A tf, na_A cn, na_A cu, na_A rh', na_A th, na_A tt, na_A tk, qu, na_A bo, na_A (na_u bp (so p) 0), sl)) : wpX_dropObject post (k1, k2, k3, k4, nI rc, nI mb, nI ft, nI lt, nI tc, nI bk, nI sk, nI qc, nI mt, rl, st, na_A ra, na_A sr, na_A fo, va, na_A so, na_A he, na_A rn, na_A rp, na_A tf, na_A cn, na_A cu, na_A rh, na_A th, na_A tt, na_A tk, qu, na_A bo, na_A bp, sl) (nI p) := by
  obtain ⟨q1, q2, q3, q4, q5⟩ := H.2.1 p hp h0
  obtain ⟨o1, o2, o3, o4, o5, o6, o7⟩ := H.1 (so p) q1 (by rw [q2]; exact q5)
  rw [q2] at o1
  exact ⟨4, dr_obj2 (he := he) o1 hp (by omega) (fun R' rn' rp' rh' H1 => K _ _ _ _ R' rn' rp' rh' (dr_drop H ha4 hp h0 hD (fun y _ => dr_zs 3 (by omega) y)) H1) 3 0 4 R rn rp rh (by omega) (by omega) RI⟩
theorem dr_srb (H : dr_D D bk bo fc vl E Ro rc ra sr fo va so he bp tf cu) (hB : ∀ s, s < bk → bo s ≠ 0 ∧ bo s < 2 ^ 31) {p : Nat} (hp : p < 112) : sr p < 2 ^ 31 := by
  by_cases z : sr p = 0
  · rw [z]; omega
  · obtain ⟨q1, q2, q3, q4, q5⟩ := H.2.1 p hp z
    have := (H.1 (so p) q1 (by rw [q2]; exact q5)).2.2.1
    rw [q2] at this
    rw [this]
    exact (hB _ q1).2
/-- a car is given back -/
theorem dr_car2 {post : SX → Prop} {x : Nat} {bp1 : Nat → Nat} (x1 : 1 ≤ x) (x2 : x < 28) (ha4 : ∀ y, cu y ≤ 4) (hB : ∀ s, s < bk → bo s ≠ 0 ∧ bo s < 2 ^ 31) (hk : bk ≤ 24) (hD : D x)
    (K : ∀ (sr fo : Nat → Nat) (va : Nat → Int32) (so he : Nat → Nat) (R : Nat → List Nat) (rn rp rh bp : Nat → Nat), dr_D D bk bo fc vl E Ro rc ra sr fo va so he bp (na_u tf x 0) (na_u cu x 0) → rl_RI he R rn rp rh → (∀ t, t < bk → (bp t = bp1 t ∨ (bp t = 0 ∧ D (bp1 t / 4)))) → post (k1, k2, k3, k4, nI rc, nI mb, nI ft, nI lt, nI tc, nI bk, nI sk, nI qc, nI mt, rl, st, na_A ra, na_A sr, na_A fo, va, na_A so, na_A he, na_A rn, na_A rp, na_A (na_u tf x 0), na_A (na_u cn x 0), na_A (na_u cu x 0), na_A rh, na_A th, na_A tt, na_A tk, qu, na_A bo, na_A bp, sl)) :
    ∀ (n s : Nat) (sr fo : Nat → Nat) (va : Nat → Int32) (so he : Nat → Nat) (R : Nat → List Nat) (rn rp rh bp : Nat → Nat), s ≤ 4 → 4 - s < n → dr_D D bk bo fc vl E Ro rc ra sr fo va so he bp tf cu → rl_RI he R rn rp rh → (∀ i, i < s → sr (4 * x + i) = 0) → (∀ t, t < bk → (bp t = bp1 t ∨ (bp t = 0 ∧ D (bp1 t / 4)))) → wX_releaseCar_2 post (nI x) n (nI s) k1 k2 k3 k4 (nI rc) (nI mb) (nI ft) (nI lt) (nI tc) (nI bk) (nI sk) (nI qc) (nI mt) rl st (na_A ra) (na_A sr) (na_A fo) va (na_A so) (na_A he) (na_A rn) (na_A rp) (na_A tf) (na_A cn) (na_A cu) (na_A rh) (na_A th) (na_A tt) (na_A tk) qu (na_A bo) (na_A bp) sl := by
  intro n
  induction n with
  | zero => intro s sr fo va so he R rn rp rh bp _ h; omega
  | succ n ih =>
    intro s sr fo va so he R rn rp rh bp h1 h2 H RI h3 h4
    rw [wX_releaseCar_2]
    have w : vp_in (nI x) 28 := vp_in_nI x2 (by omega)
    refine pk_le 4 s (fun z => ?_) (fun z => ?_)
    · exact ⟨w, nm_r (na_wr (v := 0) (by omega)) ⟨w, nm_r (na_wr (v := 0) (by omega)) ⟨w, nm_r (na_wr (v := 0) (by omega)) (K sr fo va so he R rn rp rh bp (dr_free H hD (fun i hi => h3 i (by omega))) RI h4)⟩⟩⟩
    · have sb := dr_srb H hB (p := 4 * x + s) (by omega)
      have ec : (4 * x + s) / 4 = x := by omega
      refine nm_r (na_m4 x s) ⟨vp_in_nI (by omega) (by omega), ?_⟩
      rw [na_rd (by omega)]
      by_cases v : sr (4 * x + s) = 0
      · refine br_t ((na_e0 sb).mpr v) (nm_r (nI_1 s) (ih (s + 1) sr fo va so he R rn rp rh bp (by omega) (by omega) H RI (fun i hi => ?_) h4))
        by_cases u : i = s
        · rw [u]; exact v
        · exact h3 i (by omega)
      · refine br_f (fun u => v ((na_e0 sb).mp u)) (dr_obj H RI ha4 hB hk (by omega) v (by rw [ec]; exact hD) (fun fo' va' so' he' R' rn' rp' rh' H' RI' => nm_r (nI_1 s) (ih (s + 1) _ fo' va' so' he' R' rn' rp' rh' _ (by omega) (by omega) H' RI' (fun i hi => ?_) (fun t ht => ?_))))
        · by_cases u : i = s
          · rw [u, na_us]
          · rw [na_un (by omega)]; exact h3 i (by omega)
        · by_cases u : t = so (4 * x + s)
          · rw [u, na_us]
            obtain ⟨q1, q2, q3, q4, q5⟩ := H.2.1 (4 * x + s) (by omega) v
            refine Or.inr ⟨rfl, ?_⟩
            rcases h4 _ q1 with e | e
            · rw [← e, q2, ec]; exact hD
            · exact e.2
          · rw [na_un u]; exact h4 t ht
theorem dr_car {post : SX → Prop} {x : Nat} (x1 : 1 ≤ x) (x2 : x < 28) (ha4 : ∀ y, cu y ≤ 4) (hB : ∀ s, s < bk → bo s ≠ 0 ∧ bo s < 2 ^ 31) (hk : bk ≤ 24) (hD : D x) (H : dr_D D bk bo fc vl E Ro rc ra sr fo va so he bp tf cu) (RI : rl_RI he R rn rp rh)
    (K : ∀ (sr' fo' : Nat → Nat) (va' : Nat → Int32) (so' he' : Nat → Nat) (R' : Nat → List Nat) (rn' rp' rh' bp' : Nat → Nat), dr_D D bk bo fc vl E Ro rc ra sr' fo' va' so' he' bp' (na_u tf x 0) (na_u cu x 0) → rl_RI he' R' rn' rp' rh' → (∀ t, t < bk → (bp' t = bp t ∨ (bp' t = 0 ∧ D (bp t / 4)))) → post (k1, k2, k3, k4, nI rc, nI mb, nI ft, nI lt, nI tc, nI bk, nI sk, nI qc, nI mt, rl, st, na_A ra, na_A sr', na_A fo', va', na_A so', na_A he', na_A rn', na_A rp', na_A (na_u tf x 0), na_A (na_u cn x 0), na_A (na_u cu x 0), na_A rh', na_A th, na_A tt, na_A tk, qu, na_A bo, na_A bp', sl)) : wpX_releaseCar post (k1, k2, k3, k4, nI rc, nI mb, nI ft, nI lt, nI tc, nI bk, nI sk, nI qc, nI mt, rl, st, na_A ra, na_A sr, na_A fo, va, na_A so, na_A he, na_A rn, na_A rp, na_A tf, na_A cn, na_A cu, na_A rh, na_A th, na_A tt, na_A tk, qu, na_A bo, na_A bp, sl) (nI x) :=
  ⟨5, dr_car2 x1 x2 ha4 hB hk hD K 5 0 sr fo va so he R rn rp rh bp (by omega) (by omega) H RI (fun i hi => absurd hi (Nat.not_lt_zero i)) (fun t _ => Or.inl rfl)⟩
end DRW
end
section
/-! the first train, the first car given back -/
section BK
def dr_FR (D : Nat → Prop) (bk ft : Nat) (bp1 : Nat → Nat) (L1 : Nat → List Nat) (tf1 cu1 bp : Nat → Nat) (L : Nat → List Nat) (tf cu : Nat → Nat) : Prop :=
  (∀ t, t < bk → (bp t = bp1 t ∨ (bp t = 0 ∧ D (bp1 t / 4)))) ∧ (∀ x, ¬ D x → tf x = tf1 x ∧ cu x = cu1 x) ∧ (∀ t, t ≠ ft → L t = L1 t)
variable {k1 k2 k3 k4 rl st : Int32} {rc mb ft lt tc bk sk qc mt : Nat} {ra sr fo so he rn rp tf cn cu rh th tt tk bo bp : Nat → Nat} {va qu sl : Nat → Int32} {c : Nat} {fc : Nat → Nat} {vl : Nat → Int32} {E : Nat → Nat → Nat} {Ro : Nat → Nat} {L R : Nat → List Nat} {D : Nat → Prop} {bp1 tf1 cu1 : Nat → Nat} {L1 : Nat → List Nat}
theorem dr_rel12 {post : SX → Prop} (hf : 1 ≤ ft) (hf' : ft ≤ 5) (h1 : 1 ≤ tc) (h5 : tc ≤ 5) (hB : ∀ s, s < bk → bo s ≠ 0 ∧ bo s < 2 ^ 31) (hk : bk ≤ 24) (hrc : rc ≤ 8)
    (K : ∀ (ra sr fo : Nat → Nat) (va : Nat → Int32) (so he : Nat → Nat) (R : Nat → List Nat) (rn rp rh : Nat → Nat) (L : Nat → List Nat) (tf cn cu th tt tk bp : Nat → Nat), mv_W 0 bk bo fc vl E Ro rc ra sr fo va so he R rn rp rh L tf cn cu th tt tk bp → L ft = [] → dr_FR D bk ft bp1 L1 tf1 cu1 bp L tf cu → (∀ t, t < bk → bp t ≠ 0 → ¬ D (bp t / 4)) → post (k1, k2, k3, k4, nI rc, nI mb, nI (tr_nt ft), nI lt, nI (tc - 1), nI bk, nI sk, nI qc, nI mt, rl, st, na_A ra, na_A sr, na_A fo, va, na_A so, na_A he, na_A rn, na_A rp, na_A tf, na_A cn, na_A cu, na_A rh, na_A th, na_A tt, na_A tk, qu, na_A bo, na_A bp, sl)) :
    ∀ (rest : List Nat) (n i : Nat) (sr fo : Nat → Nat) (va : Nat → Int32) (so he : Nat → Nat) (R : Nat → List Nat) (rn rp rh : Nat → Nat) (L : Nat → List Nat) (tf cn cu bp : Nat → Nat), rest.length < n → i + rest.length ≤ 28 → dr_D D bk bo fc vl E Ro rc ra sr fo va so he bp tf cu → rl_RI he R rn rp rh → tr_TI ft L tf cn cu th tt tk → L ft = rest → (∀ x, D x → x ∈ rest ∨ tf x = 0) → (∀ x, x ∈ rest → D x) → dr_FR D bk ft bp1 L1 tf1 cu1 bp L tf cu → wX_releaseFirstTrain_12 post n (nI (rest.headD 0)) (nI i) k1 k2 k3 k4 (nI rc) (nI mb) (nI ft) (nI lt) (nI tc) (nI bk) (nI sk) (nI qc) (nI mt) rl st (na_A ra) (na_A sr) (na_A fo) va (na_A so) (na_A he) (na_A rn) (na_A rp) (na_A tf) (na_A cn) (na_A cu) (na_A rh) (na_A th) (na_A tt) (na_A tk) qu (na_A bo) (na_A bp) sl := by
  intro rest
  induction rest with
  | nil =>
    intro n i sr fo va so he R rn rp rh L tf cn cu bp g1 g2 H RI TI e g3 g4 g5
    obtain ⟨n, rfl⟩ : ∃ m, n = m + 1 := ⟨n - 1, by omega⟩
    rw [wX_releaseFirstTrain_12]
    have g3' : ∀ x, D x → tf x = 0 := fun x hx => (g3 x hx).elim (fun q => nomatch q) id
    refine br_t nI_0 (tr_close hf' h5 h1 (K ra sr fo va so he R rn rp rh L tf cn cu _ _ _ bp ⟨dr_to H hB g3', tr_fix TI (fun t q => ⟨na_un q, na_un q, na_un q⟩) ⟨?_, ?_, ?_⟩, RI, hB, hk, hrc⟩ e g5 (dr_nd H hB g3')))
    · rw [na_us, e]; rfl
    · rw [na_us, e]; rfl
    · rw [na_us, e]; rfl
  | cons x xs ih =>
    intro n i sr fo va so he R rn rp rh L tf cn cu bp g1 g2 H RI TI e g3 g4 g5
    obtain ⟨n, rfl⟩ : ∃ m, n = m + 1 := ⟨n - 1, by omega⟩
    obtain ⟨m1, m2, m3, m4, m5⟩ := tr_step (pre := []) TI hf hf' e
    rw [List.length_cons] at g1 g2
    have hDx : D x := g4 x List.mem_cons_self
    rw [wX_releaseFirstTrain_12]
    refine br_f (nI_ne0 (n := x) (by omega) (by omega)) (br_f (nI_ge (b := 28) (by omega) (by omega)) ⟨vp_in_nI m2 (by omega), nm_r (e' := nI (xs.headD 0)) (by show na_A cn (nI x).toNatClampNeg = _; rw [na_rd (by omega), m3]) ?_⟩)
    refine dr_car (x := x) m1 m2 TI.2.2.2 hB hk hDx H RI (fun sr' fo' va' so' he' R' rn' rp' rh' bp' H' RI' F' => nm_r (nI_1 i) (ih n (i + 1) sr' fo' va' so' he' R' rn' rp' rh' _ _ _ _ bp' (by omega) (by omega) H' RI' (tr_rel TI hf hf' e) tr_Ss (fun y hy => ?_) (fun y hy => g4 y (List.mem_cons_of_mem _ hy)) ⟨fun t ht => ?_, fun y hy => ?_, fun t ht => ?_⟩))
    · by_cases z : y = x
      · rw [z]; exact Or.inr na_us
      · rw [na_un z]
        refine (g3 y hy).imp (fun q => ?_) id
        rcases List.mem_cons.mp q with q | q
        · exact absurd q z
        · exact q
    · rcases F' t ht with q | q
      · rw [q]; exact g5.1 t ht
      · refine Or.inr ⟨q.1, ?_⟩
        rcases g5.1 t ht with r | r
        · rw [← r]; exact q.2
        · exact r.2
    · have z : y ≠ x := fun q => hy (q ▸ hDx)
      rw [na_un z, na_un z]
      exact g5.2.1 y hy
    · rw [tr_Sn ht]; exact g5.2.2 t ht
/-- nothing outside holds an object of the first train: it goes -/
theorem dr_relT {post : SX → Prop} (W : mv_W 0 bk bo fc vl E Ro rc ra sr fo va so he R rn rp rh L tf cn cu th tt tk bp) (hf : 1 ≤ ft) (hf' : ft ≤ 5) (h1 : 1 ≤ tc) (h5 : tc ≤ 5)
    (hR : ∀ r, r < rc → hp_pl bp (Ro r) ≠ 0 → tf (hp_pl bp (Ro r) / 4) ≠ ft) (hE : ∀ h, h < bk → bp h ≠ 0 → tf (bp h / 4) ≠ ft → ∀ f, f < 3 → hp_pl bp (E h f) ≠ 0 → tf (hp_pl bp (E h f) / 4) ≠ ft)
    (K : ∀ (ra' sr' fo' : Nat → Nat) (va' : Nat → Int32) (so' he' : Nat → Nat) (R' : Nat → List Nat) (rn' rp' rh' : Nat → Nat) (L' : Nat → List Nat) (tf' cn' cu' th' tt' tk' bp' : Nat → Nat), mv_W 0 bk bo fc vl E Ro rc ra' sr' fo' va' so' he' R' rn' rp' rh' L' tf' cn' cu' th' tt' tk' bp' → L' ft = [] → dr_FR (fun x => x ∈ L ft) bk ft bp L tf cu bp' L' tf' cu' → (∀ t, t < bk → bp' t ≠ 0 → ¬ bp' t / 4 ∈ L ft) → post (k1, k2, k3, k4, nI rc, nI mb, nI (tr_nt ft), nI lt, nI (tc - 1), nI bk, nI sk, nI qc, nI mt, rl, st, na_A ra', na_A sr', na_A fo', va', na_A so', na_A he', na_A rn', na_A rp', na_A tf', na_A cn', na_A cu', na_A rh', na_A th', na_A tt', na_A tk', qu, na_A bo, na_A bp', sl)) : wpX_releaseFirstTrain post (k1, k2, k3, k4, nI rc, nI mb, nI ft, nI lt, nI tc, nI bk, nI sk, nI qc, nI mt, rl, st, na_A ra, na_A sr, na_A fo, va, na_A so, na_A he, na_A rn, na_A rp, na_A tf, na_A cn, na_A cu, na_A rh, na_A th, na_A tt, na_A tk, qu, na_A bo, na_A bp, sl) := by
  obtain ⟨H, TI, RI, hB, hk, hrc⟩ := W
  have len := tr_len TI hf hf'
  have A := ab_of ⟨H, TI, RI, hB, hk, hrc⟩
  have mem := TI.2.1
  refine ⟨vp_in_nI (by omega) (by omega), nm_r (e' := nI ((L ft).headD 0)) (by rw [na_rd (by omega), ((TI.1 ft hf hf').2.2 (by omega)).1]) ⟨29, ?_⟩⟩
  refine dr_rel12 (D := fun x => x ∈ L ft) hf hf' h1 h5 hB hk hrc K (L ft) 29 0 sr fo va so he R rn rp rh L tf cn cu bp (by omega) (by omega) (dr_of H (fun r hr h0 q => hR r hr h0 ((mem ft _ hf hf').mp q).2.2) (fun h hh h0 hd f hf3 p0 q => hE h hh h0 (fun w => hd ?_) f hf3 p0 ((mem ft _ hf hf').mp q).2.2) (fun x x1 _ => by omega)) RI (tr_ex TI (fun t _ => rfl) (fun t _ => rfl)) rfl (fun x hx => Or.inl hx) (fun x hx => hx) ⟨fun t _ => Or.inl rfl, fun x _ => ⟨rfl, rfl⟩, fun t _ => rfl⟩
  have := A.1 h hh h0
  exact (mem ft _ hf hf').mpr ⟨by omega, by omega, w⟩
/-- the first car goes -/
theorem dr_ret {post : SX → Prop} {l : List Nat} (W : mv_W c bk bo fc vl E Ro rc ra sr fo va so he R rn rp rh L tf cn cu th tt tk bp) (hf : 1 ≤ ft) (hf' : ft ≤ 5) (h1 : 1 ≤ tc) (h5 : tc ≤ 5) (e : L ft = c :: l)
    (hR : ∀ r, r < rc → hp_pl bp (Ro r) / 4 ≠ c) (hE : ∀ h, h < bk → bp h ≠ 0 → bp h / 4 ≠ c → ∀ f, f < 3 → hp_pl bp (E h f) / 4 ≠ c)
    (K1 : l = [] → ∀ (ra' sr' fo' : Nat → Nat) (va' : Nat → Int32) (so' he' : Nat → Nat) (R' : Nat → List Nat) (rn' rp' rh' : Nat → Nat) (L' : Nat → List Nat) (tf' cn' cu' th' tt' tk' bp' : Nat → Nat), mv_W 0 bk bo fc vl E Ro rc ra' sr' fo' va' so' he' R' rn' rp' rh' L' tf' cn' cu' th' tt' tk' bp' → L' ft = [] → dr_FR (fun x => x = c) bk ft bp L tf cu bp' L' tf' cu' → (∀ t, t < bk → bp' t ≠ 0 → ¬ bp' t / 4 = c) → post (k1, k2, k3, k4, nI rc, nI mb, nI (tr_nt ft), nI lt, nI (tc - 1), nI bk, nI sk, nI qc, nI mt, rl, st, na_A ra', na_A sr', na_A fo', va', na_A so', na_A he', na_A rn', na_A rp', na_A tf', na_A cn', na_A cu', na_A rh', na_A th', na_A tt', na_A tk', qu, na_A bo, na_A bp', sl))
    (K2 : l ≠ [] → ∀ (ra' sr' fo' : Nat → Nat) (va' : Nat → Int32) (so' he' : Nat → Nat) (R' : Nat → List Nat) (rn' rp' rh' : Nat → Nat) (L' : Nat → List Nat) (tf' cn' cu' th' tt' tk' bp' : Nat → Nat), mv_W 0 bk bo fc vl E Ro rc ra' sr' fo' va' so' he' R' rn' rp' rh' L' tf' cn' cu' th' tt' tk' bp' → L' ft = l → dr_FR (fun x => x = c) bk ft bp L tf cu bp' L' tf' cu' → (∀ t, t < bk → bp' t ≠ 0 → ¬ bp' t / 4 = c) → post (k1, k2, k3, k4, nI rc, nI mb, nI ft, nI lt, nI tc, nI bk, nI sk, nI qc, nI mt, rl, st, na_A ra', na_A sr', na_A fo', va', na_A so', na_A he', na_A rn', na_A rp', na_A tf', na_A cn', na_A cu', na_A rh', na_A th', na_A tt', na_A tk', qu, na_A bo, na_A bp', sl)) : wpX_retireFirstCar post (k1, k2, k3, k4, nI rc, nI mb, nI ft, nI lt, nI tc, nI bk, nI sk, nI qc, nI mt, rl, st, na_A ra, na_A sr, na_A fo, va, na_A so, na_A he, na_A rn, na_A rp, na_A tf, na_A cn, na_A cu, na_A rh, na_A th, na_A tt, na_A tk, qu, na_A bo, na_A bp, sl) (nI c) (nI ft) := by
  obtain ⟨H, TI, RI, hB, hk, hrc⟩ := W
  obtain ⟨m1, m2, m3, m4, m5⟩ := tr_step (pre := []) TI hf hf' e
  have len := tr_len TI hf hf'
  obtain ⟨t1, t2, t3⟩ := (TI.1 ft hf hf').2.2 (by omega)
  rw [e, List.length_cons] at t3
  have wf : vp_in (nI ft) 6 := vp_in_nI (by omega) (by omega)
  have hl : ∀ y, y ∈ l → 1 ≤ y ∧ y < 28 := fun y hy => by
    have := (TI.2.1 ft y hf hf').mp (by rw [e]; exact List.mem_cons_of_mem _ hy)
    exact ⟨this.1, this.2.1⟩
  have hlb : l.headD 0 < 28 := by
    cases l with
    | nil => show 0 < 28; omega
    | cons y ys => exact (hl y List.mem_cons_self).2
  refine ⟨vp_in_nI m2 (by omega), wf, nm_r (e' := na_A (na_u th ft (l.headD 0))) (by rw [na_rd (by omega), na_wr (by omega), m3]) ⟨wf, wf, nm_r (e' := na_A (na_u tk ft l.length)) ?_ ?_⟩⟩
  · rw [na_rd (by omega), t3, nI_pred, na_wr (by omega)]
  · refine dr_car (x := c) (D := fun x => x = c) m1 m2 TI.2.2.2 hB hk rfl (dr_of H (fun r hr _ => hR r hr) (fun h hh h0 hd f hf3 _ => hE h hh h0 hd f hf3) (fun x _ q => q)) RI (fun sr' fo' va' so' he' R' rn' rp' rh' bp' H' RI' F' => ⟨wf, ?_⟩)
    have TI' := tr_rel (tr_ex (T := ft) (th' := na_u th ft (l.headD 0)) (tk' := na_u tk ft l.length) TI (fun t q => na_un q) (fun t q => na_un q)) hf hf' e
    have D0 : ∀ x, x = c → na_u tf c 0 x = 0 := fun x hx => by rw [hx, na_us]
    have FR : dr_FR (fun x => x = c) bk ft bp L tf cu bp' (tr_S L ft l) (na_u tf c 0) (na_u cu c 0) := ⟨F', fun x hx => ⟨na_un hx, na_un hx⟩, fun t ht => tr_Sn ht⟩
    show (na_A (na_u th ft (l.headD 0)) (nI ft).toNatClampNeg = 0 → _) ∧ (¬ na_A (na_u th ft (l.headD 0)) (nI ft).toNatClampNeg = 0 → _)
    rw [na_rd (by omega), na_us]
    by_cases z : l = []
    · refine br_t (by rw [z]; exact nI_0) (tr_close hf' h5 h1 (K1 z ra sr' fo' va' so' he' R' rn' rp' rh' (tr_S L ft l) _ _ _ _ _ _ bp' ⟨dr_to H' hB D0, tr_fix TI' (fun t q => ⟨na_un q, na_un q, na_un q⟩) ⟨?_, ?_, ?_⟩, RI', hB, hk, hrc⟩ (by rw [tr_Ss]; exact z) FR (dr_nd H' hB D0)))
      · rw [na_us, tr_Ss, z]; rfl
      · rw [na_us, tr_Ss, z]; rfl
      · rw [na_us, tr_Ss, z]; rfl
    · refine br_f (fun q => ?_) (K2 z ra sr' fo' va' so' he' R' rn' rp' rh' (tr_S L ft l) _ _ _ _ _ _ bp' ⟨dr_to H' hB D0, tr_fix TI' (fun t q => ⟨rfl, rfl, rfl⟩) ⟨?_, ?_, ?_⟩, RI', hB, hk, hrc⟩ tr_Ss FR (dr_nd H' hB D0))
      · have := (na_e0 (by omega)).mp q
        exact z ((tr_hd0 (fun y hy => (hl y hy).1)).mp this)
      · rw [na_us, tr_Ss]
      · rw [tr_Ss, t2, e]
        cases l with
        | nil => exact absurd rfl z
        | cons y ys => rfl
      · rw [na_us, tr_Ss]
end BK
end
section
/-! counts and the potential -/
section LI
def li_N (bk T : Nat) (bp tf : Nat → Nat) : Nat := ((List.range bk).filter (fun s => decide (bp s ≠ 0 ∧ tf (bp s / 4) = T))).length
def li_S : Nat → Nat
  | 0 => 0
  | m + 1 => li_S m + (m / 4 + 1)
theorem li_S24 : li_S 24 = 84 := by decide
theorem li_Sm {a b : Nat} (h : a ≤ b) : li_S a ≤ li_S b := by
  induction b with
  | zero =>
    have : a = 0 := by omega
    rw [this]
    exact Nat.le_refl _
  | succ b ih =>
    by_cases z : a = b + 1
    · rw [z]; exact Nat.le_refl _
    · have := ih (by omega)
      show li_S a ≤ li_S b + (b / 4 + 1)
      omega
variable {bk T : Nat} {bp tf bp' tf' : Nat → Nat}
theorem li_mem {s : Nat} : s ∈ (List.range bk).filter (fun s => decide (bp s ≠ 0 ∧ tf (bp s / 4) = T)) ↔ s < bk ∧ bp s ≠ 0 ∧ tf (bp s / 4) = T := by
  rw [List.mem_filter, List.mem_range, decide_eq_true_iff]
theorem li_nd : ((List.range bk).filter (fun s => decide (bp s ≠ 0 ∧ tf (bp s / 4) = T))).Nodup := List.Nodup.sublist List.filter_sublist List.nodup_range
theorem li_mono (h : ∀ s, s < bk → bp' s ≠ 0 → tf' (bp' s / 4) = T → bp s ≠ 0 ∧ tf (bp s / 4) = T) : li_N bk T bp' tf' ≤ li_N bk T bp tf :=
  List.Nodup.length_le_of_subset li_nd (fun s hs => by
    obtain ⟨h1, h2, h3⟩ := li_mem.mp hs
    exact li_mem.mpr ⟨h1, h s h1 h2 h3⟩)
theorem li_lt {s0 : Nat} (h : ∀ s, s < bk → bp' s ≠ 0 → tf' (bp' s / 4) = T → bp s ≠ 0 ∧ tf (bp s / 4) = T) (h1 : s0 < bk) (h2 : bp s0 ≠ 0) (h3 : tf (bp s0 / 4) = T) (h4 : ¬ (bp' s0 ≠ 0 ∧ tf' (bp' s0 / 4) = T)) : li_N bk T bp' tf' < li_N bk T bp tf := by
  have nd : (s0 :: (List.range bk).filter (fun s => decide (bp' s ≠ 0 ∧ tf' (bp' s / 4) = T))).Nodup := List.nodup_cons.mpr ⟨fun q => h4 (li_mem.mp q).2, li_nd⟩
  have := List.Nodup.length_le_of_subset nd (l₂ := (List.range bk).filter (fun s => decide (bp s ≠ 0 ∧ tf (bp s / 4) = T))) (fun s hs => by
    rcases List.mem_cons.mp hs with e | hs
    · rw [e]; exact li_mem.mpr ⟨h1, h2, h3⟩
    · obtain ⟨k1, k2, k3⟩ := li_mem.mp hs
      exact li_mem.mpr ⟨k1, h s k1 k2 k3⟩)
  rw [List.length_cons] at this
  exact this
theorem li_le : li_N bk T bp tf ≤ bk := by
  have := List.length_filter_le (fun s => decide (bp s ≠ 0 ∧ tf (bp s / 4) = T)) (List.range bk)
  rw [List.length_range] at this
  exact this
theorem li_ge {pl : List Nat} (nd : pl.Nodup) (h : ∀ p, p ∈ pl → p ≠ 0 ∧ tf (p / 4) = T ∧ ∃ t, t < bk ∧ bp t = p) : pl.length ≤ li_N bk T bp tf := by
  have := List.Nodup.length_le_of_subset nd (l₂ := ((List.range bk).filter (fun s => decide (bp s ≠ 0 ∧ tf (bp s / 4) = T))).map bp) (fun p hp => by
    obtain ⟨h1, h2, t, h3, h4⟩ := h p hp
    exact List.mem_map.mpr ⟨t, li_mem.mpr ⟨h3, by rw [h4]; exact h1, by rw [h4]; exact h2⟩, h4⟩)
  rw [List.length_map] at this
  exact this
def li_pl (cu : Nat → Nat) : List Nat → List Nat
  | [] => []
  | x :: xs => (List.range (cu x)).map (fun i => 4 * x + i) ++ li_pl cu xs
variable {cu : Nat → Nat}
theorem li_plm (h4 : ∀ x, cu x ≤ 4) : ∀ (l : List Nat) (p : Nat), p ∈ li_pl cu l → p / 4 ∈ l ∧ p % 4 < cu (p / 4) := by
  intro l
  induction l with
  | nil => intro p hp; exact nomatch hp
  | cons x xs ih =>
    intro p hp
    rcases List.mem_append.mp hp with hp | hp
    · obtain ⟨i, hi, e⟩ := List.mem_map.mp hp
      rw [List.mem_range] at hi
      have := h4 x
      have e1 : p / 4 = x := by omega
      have e2 : p % 4 = i := by omega
      rw [e1, e2]
      exact ⟨List.mem_cons_self, hi⟩
    · obtain ⟨a, b⟩ := ih p hp
      exact ⟨List.mem_cons_of_mem _ a, b⟩
theorem li_pln (h4 : ∀ x, cu x ≤ 4) : ∀ l : List Nat, l.Nodup → (li_pl cu l).Nodup := by
  intro l
  induction l with
  | nil => intro _; exact List.nodup_nil
  | cons x xs ih =>
    intro hd
    have hd' := List.nodup_cons.mp hd
    refine List.nodup_append.mpr ⟨?_, ih hd'.2, fun a ha b hb e => ?_⟩
    · rw [List.nodup_iff_pairwise_ne, List.pairwise_map]
      refine List.Pairwise.imp_of_mem (R := fun a b => a ≠ b) ?_ List.nodup_range
      intro a b _ _ hab e
      exact hab (by omega)
    · obtain ⟨i, hi, e'⟩ := List.mem_map.mp ha
      rw [List.mem_range] at hi
      have := h4 x
      have := (li_plm h4 xs b hb).1
      have e1 : b / 4 = x := by omega
      rw [e1] at this
      exact hd'.1 this
theorem li_pk : ∀ (l : List Nat) (p : Nat), l.Nodup → l ≠ [] → (∀ x, x ∈ l → 1 ≤ cu x) → (∀ x, x ∈ l → (x = rl_la p l ∨ cu x = 4)) → 4 * l.length ≤ (li_pl cu l).length + 3 := by
  intro l
  induction l with
  | nil => intro p _ h; exact absurd rfl h
  | cons x xs ih =>
    intro p hd _ h1 h2
    have hd' := List.nodup_cons.mp hd
    have hx := h1 x List.mem_cons_self
    cases xs with
    | nil =>
      show 4 * 1 ≤ ((List.range (cu x)).map (fun i => 4 * x + i) ++ []).length + 3
      rw [List.append_nil, List.length_map, List.length_range]
      omega
    | cons y ys =>
      have g := ih x hd'.2 (fun q => nomatch q) (fun z hz => h1 z (List.mem_cons_of_mem _ hz)) (fun z hz => h2 z (List.mem_cons_of_mem _ hz))
      have hc : cu x = 4 := by
        rcases h2 x List.mem_cons_self with q | q
        · exact absurd (rl_lam (y :: ys) x (fun q => nomatch q)) (q ▸ hd'.1)
        · exact q
      show 4 * (y :: ys).length.succ ≤ ((List.range (cu x)).map (fun i => 4 * x + i) ++ li_pl cu (y :: ys)).length + 3
      rw [List.length_append, List.length_map, List.length_range, hc]
      omega
theorem li_pl1 : ∀ l : List Nat, (∀ x, x ∈ l → 1 ≤ cu x) → l.length ≤ (li_pl cu l).length := by
  intro l
  induction l with
  | nil => intro _; exact Nat.le_refl _
  | cons x xs ih =>
    intro h
    have := ih (fun y hy => h y (List.mem_cons_of_mem _ hy))
    have hx := h x List.mem_cons_self
    show xs.length + 1 ≤ ((List.range (cu x)).map (fun i => 4 * x + i) ++ li_pl cu xs).length
    rw [List.length_append, List.length_map, List.length_range]
    omega
variable {c ft : Nat} {E : Nat → Nat → Nat} {L : Nat → List Nat}
theorem li_places (A : ab_W 0 bk E bp L tf cu) (hT : 1 ≤ T) (hT' : T ≤ 5) : (li_pl cu (L T)).length ≤ li_N bk T bp tf := by
  obtain ⟨A1, A2, A3, A4, A5, A6, A7⟩ := A
  refine li_ge (li_pln A7 _ (A5 T hT hT')) (fun p hp => ?_)
  obtain ⟨h1, h2⟩ := li_plm A7 _ p hp
  obtain ⟨m1, m2, m3⟩ := (A4 T _ hT hT').mp h1
  obtain ⟨k1, k2⟩ := A3 (p / 4) m1 m2 (by omega) (by omega)
  obtain ⟨t, t1, t2⟩ := k2 _ h2
  exact ⟨by omega, m3, t, t1, by omega⟩
theorem li_cu1 (A : ab_W 0 bk E bp L tf cu) (hT : 1 ≤ T) (hT' : T ≤ 5) : ∀ x, x ∈ L T → 1 ≤ cu x := fun x hx => by
  obtain ⟨m1, m2, m3⟩ := (A.2.2.2.1 T _ hT hT').mp hx
  exact (A.2.2.1 x m1 m2 (by omega) (by omega)).1
theorem li_cars (A : ab_W 0 bk E bp L tf cu) (hT : 1 ≤ T) (hT' : T ≤ 5) : (L T).length ≤ li_N bk T bp tf :=
  Nat.le_trans (li_pl1 _ (li_cu1 A hT hT')) (li_places A hT hT')
def li_OH (rc bk : Nat) (E : Nat → Nat → Nat) (Ro : Nat → Nat) (T : Nat) (bp tf : Nat → Nat) (s : Nat) : Prop :=
  (∃ r, r < rc ∧ Ro r = s + 1) ∨ ∃ h, h < bk ∧ bp h ≠ 0 ∧ tf (bp h / 4) ≠ T ∧ ∃ f, f < 3 ∧ E h f = s + 1
def li_P (rc bk ft : Nat) (E : Nat → Nat → Nat) (Ro bp : Nat → Nat) (L : Nat → List Nat) (tf cu : Nat → Nat) (j p : Nat) : Prop :=
  j = 0 ∨ ∃ A B mm, L ft = A ++ B ∧ A ≠ [] ∧ (∀ x, x ∈ B → (x = rl_la 0 (L ft) ∨ cu x = 4)) ∧ li_N bk ft bp tf ≤ mm ∧ mm ≤ 24 ∧
    (li_N bk ft bp tf < mm ∨ ∀ s, s < bk → bp s ≠ 0 → bp s / 4 ∈ B → ¬ li_OH rc bk E Ro ft bp tf s) ∧ (j - 1) * 109 + A.length + li_S mm + 1 ≤ p
def li_V (rc bk ft tc : Nat) (E : Nat → Nat → Nat) (Ro bp : Nat → Nat) (L : Nat → List Nat) (tf cu : Nat → Nat) (j p : Nat) : Prop :=
  j ≤ tc ∧ (∀ t, t < bk → bp t ≠ 0 → j ≤ tr_rk ft (tf (bp t / 4)) → rs_R rc E Ro t) ∧ li_P rc bk ft E Ro bp L tf cu j p
def li_R (ft lt tc : Nat) (L : Nat → List Nat) : Prop :=
  (tc = 0 ∧ ft ≤ 5 ∧ lt ≤ 5 ∧ ∀ t, 1 ≤ t → t ≤ 5 → L t = []) ∨ (tr_G ft lt tc ∧ ∀ t, 1 ≤ t → t ≤ 5 → (L t ≠ [] ↔ tr_rk ft t < tc))
variable {rc lt tc j p : Nat} {Ro : Nat → Nat}
/-- a train that becomes the first one: a fresh round -/
theorem li_fresh (A : ab_W 0 bk E bp L tf cu) (hk : bk ≤ 24) (R : li_R ft lt tc L) (hj : j ≤ tc) (hp : j * 109 ≤ p) : li_P rc bk ft E Ro bp L tf cu j p := by
  by_cases z : j = 0
  · exact Or.inl z
  · rcases R with R | ⟨G, R⟩
    · omega
    · obtain ⟨g1, g2, g3, g4, g5, g6, g7⟩ := G
      have hne : L ft ≠ [] := (R ft g1 g2).mpr (by show (ft + 5 - ft) % 5 < tc; omega)
      have n1 := li_cars A g1 g2
      have n2 : li_N bk ft bp tf ≤ bk := li_le
      have n3 := li_Sm (Nat.le_trans n2 hk)
      rw [li_S24] at n3
      refine Or.inr ⟨L ft, [], li_N bk ft bp tf, by rw [List.append_nil], hne, fun x hx => (nomatch hx), Nat.le_refl _, by omega, Or.inr (fun s _ _ h => nomatch h), ?_⟩
      have : j = (j - 1) + 1 := by omega
      rw [this, Nat.add_mul] at hp
      omega
theorem li_rk1 (hf : 1 ≤ ft) (hf' : ft ≤ 5) {t : Nat} (h1 : 1 ≤ t) (h2 : t ≤ 5) (h : t ≠ ft) : tr_rk (tr_nt ft) t + 1 = tr_rk ft t := by
  unfold tr_rk tr_nt
  by_cases z : ft < 5
  · rw [if_pos z]; omega
  · rw [if_neg z]; omega
theorem li_rk0 (hf : 1 ≤ ft) (hf' : ft ≤ 5) : tr_rk ft ft = 0 := by
  unfold tr_rk
  omega
/-- the ring when the first train is closed -/
theorem li_Rc {L' : Nat → List Nat} (G : tr_G ft lt tc) (h : ∀ t, 1 ≤ t → t ≤ 5 → (L t ≠ [] ↔ tr_rk ft t < tc)) (h0 : L' ft = []) (h1 : ∀ t, t ≠ ft → L' t = L t) : li_R (tr_nt ft) lt (tc - 1) L' := by
  obtain ⟨g1, g2, g3, g4, g5, g6, g7⟩ := G
  have nt := tr_nt1 (l := ft)
  by_cases z : tc = 1
  · refine Or.inl ⟨by omega, nt.2, g4, fun t t1 t2 => ?_⟩
    by_cases w : t = ft
    · rw [w]; exact h0
    · rw [h1 t w]
      apply Classical.byContradiction
      intro q
      have := (h t t1 t2).mp q
      have := li_rk1 g1 g2 t1 t2 w
      omega
  · refine Or.inr ⟨⟨nt.1, nt.2, g3, g4, by omega, by omega, ?_⟩, fun t t1 t2 => ?_⟩
    · have : lt ≠ ft := fun e => by rw [e] at g7; omega
      have := li_rk1 g1 g2 g3 g4 this
      unfold tr_rk at this
      omega
    · by_cases w : t = ft
      · rw [w, h0]
        refine ⟨fun q => absurd rfl q, fun q => ?_⟩
        have : tr_rk (tr_nt ft) ft = 4 := by
          unfold tr_rk tr_nt
          by_cases z : ft < 5
          · rw [if_pos z]; omega
          · rw [if_neg z]; omega
        omega
      · rw [h1 t w, h t t1 t2]
        have := li_rk1 g1 g2 t1 t2 w
        omega
end LI
end
section
/-! one beat, pure: what the phases give together -/
section BE
variable {c ft tc2 j bk rc : Nat} {E : Nat → Nat → Nat} {Ro bp0 bp2 bp3 bp' tf0 tf2 tf3 tf' cu0 cu2 cu3 cu' : Nat → Nat} {L0 L2 L3 L' : Nat → List Nat} {A' B nw : List Nat}
def be_F (rc bk ft c j : Nat) (E : Nat → Nat → Nat) (Ro : Nat → Nat) (B nw : List Nat) (bp0 tf0 bp2 bp' tf' : Nat → Nat) : Prop :=
  (∀ s, s < bk → bp' s ≠ 0 → tf' (bp' s / 4) = ft → bp0 s ≠ 0 ∧ tf0 (bp0 s / 4) = ft) ∧
  (∀ s, s < bk → bp2 s ≠ bp0 s → bp0 s ≠ 0 ∧ tf0 (bp0 s / 4) = ft ∧ ¬ (bp' s ≠ 0 ∧ tf' (bp' s / 4) = ft)) ∧
  (∀ s, s < bk → li_OH rc bk E Ro ft bp0 tf0 s → bp0 s ≠ 0 → bp2 s / 4 ≠ c) ∧
  (∀ t, t < bk → bp' t ≠ 0 → j ≤ tr_rk ft (tf' (bp' t / 4)) → rs_R rc E Ro t) ∧
  ((∀ s, s < bk → bp2 s = bp0 s) → ∀ s, s < bk → li_OH rc bk E Ro ft bp' tf' s → li_OH rc bk E Ro ft bp0 tf0 s) ∧
  ((∀ s, s < bk → bp2 s = bp0 s) → ∀ s, s < bk → bp' s ≠ 0 → bp' s / 4 ∈ B ++ nw → ((bp0 s ≠ 0 ∧ bp2 s / 4 = c) ∨ (bp0 s ≠ 0 ∧ bp0 s / 4 ∈ B))) ∧
  (∀ s, s < bk → bp' s ≠ 0 → bp0 s ≠ 0)
theorem be_facts (hf : 1 ≤ ft) (hf' : ft ≤ 5) (A0 : ab_W 0 bk E bp0 L0 tf0 cu0) (hct : tf0 c = ft) (e0 : L0 ft = c :: (A' ++ B)) (Q2 : ph_A rc ft tc2 j 0 c bk E Ro bp0 L0 tf0 cu0 bp2 L2 tf2 cu2) (A2 : ab_W c bk E bp2 L2 tf2 cu2)
    (N1 : ∀ r, r < rc → hp_pl bp2 (Ro r) / 4 ≠ c) (N2 : ∀ h, h < bk → bp2 h ≠ 0 → tf2 (bp2 h / 4) ≠ ft → ∀ f, f < 3 → hp_pl bp2 (E h f) / 4 ≠ c)
    (Q3 : ph_B ft c bk A' bp2 L2 tf2 bp3 L3 tf3 cu3) (A3 : ab_W c bk E bp3 L3 tf3 cu3) (e3 : L3 ft = c :: (A' ++ (B ++ nw)))
    (FR : dr_FR (fun x => x = c) bk ft bp3 L3 tf3 cu3 bp' L' tf' cu') (ND : ∀ t, t < bk → bp' t ≠ 0 → ¬ bp' t / 4 = c) : be_F rc bk ft c j E Ro B nw bp0 tf0 bp2 bp' tf' := by
  have al : ∀ s, s < bk → bp' s ≠ 0 → bp' s = bp3 s ∧ tf' (bp' s / 4) = tf3 (bp3 s / 4) := fun s hs h0 => by
    have e : bp' s = bp3 s := (FR.1 s hs).elim id (fun q => absurd q.1 h0)
    exact ⟨e, by rw [(FR.2.1 _ (ND s hs h0)).1, e]⟩
  have t32 : ∀ s, s < bk → bp2 s ≠ 0 → tf3 (bp2 s / 4) = tf2 (bp2 s / 4) := fun s hs h0 => Q3.2.1 _ (A2.1 s hs h0).2.2.1
  have t20 : ∀ s, s < bk → bp0 s ≠ 0 → tf2 (bp0 s / 4) = tf0 (bp0 s / 4) := fun s hs h0 => Q2.2.1 _ (A0.1 s hs h0).2.2.1
  refine ⟨fun s hs h0 ht => ?_, fun s hs hne => ?_, fun s hs oh h0 => ?_, fun s hs h0 hj => ?_, fun mv s hs oh => ?_, fun mv s hs h0 hx => ?_, fun s hs h0 => ?_⟩
  · obtain ⟨e1, e2⟩ := al s hs h0
    rw [e2] at ht
    rw [e1] at h0
    rcases Q3.1 s hs with q | q
    · rw [q] at ht h0
      rw [t32 s hs h0] at ht
      rcases Q2.1 s hs with r | r
      · rw [r] at ht h0
        rw [t20 s hs h0] at ht
        exact ⟨h0, ht⟩
      · exact absurd ht r.2.2.2.2
    · rcases Q2.1 s hs with r | r
      · rw [r] at q
        exact ⟨q.1, by rw [q.2.1]; exact hct⟩
      · exact absurd q.2.1 r.2.2.2.1
  · rcases Q2.1 s hs with r | r
    · exact absurd r hne
    · refine ⟨r.1, by rw [r.2.1]; exact hct, fun ⟨h0, ht⟩ => ?_⟩
      obtain ⟨e1, e2⟩ := al s hs h0
      rw [e2] at ht
      rcases Q3.1 s hs with q | q
      · rw [q, t32 s hs r.2.2.1] at ht
        exact r.2.2.2.2 ht
      · exact r.2.2.2.1 q.2.1
  · rcases oh with ⟨r, hr, e⟩ | ⟨h, hh, hh0, ht, f, hf3, e⟩
    · have := N1 r hr
      rw [e, hp_1] at this
      exact this
    · have e2 : bp2 h = bp0 h := (Q2.1 h hh).elim id (fun q => absurd (by rw [q.2.1]; exact hct) ht)
      have := N2 h hh (by rw [e2]; exact hh0) (by rw [e2, t20 h hh hh0]; exact ht) f hf3
      rw [e, hp_1] at this
      exact this
  · obtain ⟨e1, e2⟩ := al s hs h0
    rw [e2] at hj
    rw [e1] at h0
    rcases Q3.1 s hs with q | q
    · rw [q] at hj h0
      rw [t32 s hs h0] at hj
      exact Q2.2.2.2.2.1 s hs h0 hj
    · rw [q.2.2.2.2, li_rk0 hf hf'] at hj
      exact Q2.2.2.2.2.1 s hs q.1 (by omega)
  · rcases oh with oh | ⟨h, hh, hh0, ht, f, hf3, e⟩
    · exact Or.inl oh
    · obtain ⟨e1, e2⟩ := al h hh hh0
      rw [e2] at ht
      rw [e1] at hh0
      rcases Q3.1 h hh with q | q
      · rw [q] at ht hh0
        rw [t32 h hh hh0] at ht
        rw [mv h hh] at ht hh0
        rw [t20 h hh hh0] at ht
        exact Or.inr ⟨h, hh, hh0, ht, f, hf3, e⟩
      · exact absurd q.2.2.2.2 ht
  · obtain ⟨e1, e2⟩ := al s hs h0
    rw [e1] at h0 hx
    rcases Q3.1 s hs with q | q
    · rw [q] at h0 hx
      have hx' := hx
      rw [mv s hs] at h0 hx
      refine Or.inr ⟨h0, ?_⟩
      have hL3 : bp2 s / 4 ∈ L3 ft := by rw [e3]; exact List.mem_cons_of_mem _ (List.mem_append_right _ hx')
      have ht := ((A3.2.2.2.1 ft _ hf hf').mp hL3)
      rw [t32 s hs (by rw [mv s hs]; exact h0), mv s hs, t20 s hs h0] at ht
      have hL0 := (A0.2.2.2.1 ft _ hf hf').mpr ht
      rw [e0] at hL0
      have nd := A3.2.2.2.2.1 ft hf hf'
      rw [e3] at nd
      have nd1 := List.nodup_cons.mp nd
      have nd2 := List.nodup_append.mp nd1.2
      rcases List.mem_cons.mp hL0 with w | w
      · exact absurd (List.mem_append_right A' (w ▸ hx)) nd1.1
      · rcases List.mem_append.mp w with w | w
        · exact absurd rfl (nd2.2.2 _ w _ hx)
        · exact w
    · exact Or.inl ⟨by rw [← mv s hs]; exact q.1, q.2.1⟩
  · obtain ⟨e1, e2⟩ := al s hs h0
    rw [e1] at h0
    have b2 : bp2 s ≠ 0 := by
      rcases Q3.1 s hs with q | q
      · rw [q] at h0; exact h0
      · exact q.1
    rcases Q2.1 s hs with r | r
    · rw [r] at b2; exact b2
    · exact r.1
theorem be_P2 {mm p : Nat} (hf : 1 ≤ ft) (hf' : ft ≤ 5) (hk : bk ≤ 24) (F : be_F rc bk ft c j E Ro B nw bp0 tf0 bp2 bp' tf') (A0 : ab_W 0 bk E bp0 L0 tf0 cu0) (e0 : L0 ft = c :: (A' ++ B)) (AE : ab_W 0 bk E bp' L' tf' cu') (eE : L' ft = A' ++ (B ++ nw)) (hne : A' ++ (B ++ nw) ≠ [])
    (h1 : li_N bk ft bp0 tf0 ≤ mm) (h2 : mm ≤ 24) (h3 : li_N bk ft bp0 tf0 < mm ∨ ∀ s, s < bk → bp0 s ≠ 0 → bp0 s / 4 ∈ B → ¬ li_OH rc bk E Ro ft bp0 tf0 s) (h4 : (j - 1) * 109 + (A'.length + 1) + li_S mm + 1 ≤ p)
    (hpk : ∀ x, x ∈ B ++ nw → (x = rl_la 0 (L' ft) ∨ cu' x = 4)) (held : ∃ o, o < bk ∧ bp0 o ≠ 0 ∧ tf0 (bp0 o / 4) = ft ∧ li_OH rc bk E Ro ft bp0 tf0 o) : li_P rc bk ft E Ro bp' L' tf' cu' j (p - 1) := by
  obtain ⟨f1, f2, f3, f4, f5, f6, -⟩ := F
  have n1 : li_N bk ft bp' tf' ≤ li_N bk ft bp0 tf0 := li_mono f1
  have n2 : (∃ s, s < bk ∧ bp2 s ≠ bp0 s) → li_N bk ft bp' tf' < li_N bk ft bp0 tf0 := fun ⟨s, hs, hn⟩ => by
    obtain ⟨k1, k2, k3⟩ := f2 s hs hn
    exact li_lt f1 hs k1 k2 k3
  by_cases zA : A' = []
  · subst zA
    rw [List.nil_append] at eE hne e0
    have n3 : li_N bk ft bp' tf' < mm := by
      rcases h3 with h3 | h3
      · omega
      · obtain ⟨o, o1, o2, o3, o4⟩ := held
        have : (∃ s, s < bk ∧ bp2 s ≠ bp0 s) := by
          refine ⟨o, o1, fun q => ?_⟩
          have hc := f3 o o1 o4 o2
          rw [q] at hc
          have a := A0.1 o o1 o2
          have hL : bp0 o / 4 ∈ L0 ft := (A0.2.2.2.1 ft _ hf hf').mpr ⟨by omega, by omega, o3⟩
          rw [e0] at hL
          rcases List.mem_cons.mp hL with w | w
          · exact hc w
          · exact h3 o o1 o2 w o4
        have := n2 this
        omega
    have nd := AE.2.2.2.2.1 ft hf hf'
    rw [← eE] at hne hpk
    have p1 := li_pk (cu := cu') (L' ft) 0 nd hne (li_cu1 AE hf hf') hpk
    have p2 := li_places AE hf hf'
    have s1 : li_S (li_N bk ft bp' tf' + 1) ≤ li_S mm := li_Sm n3
    have s2 : li_S (li_N bk ft bp' tf' + 1) = li_S (li_N bk ft bp' tf') + (li_N bk ft bp' tf' / 4 + 1) := rfl
    refine Or.inr ⟨L' ft, [], li_N bk ft bp' tf', by rw [List.append_nil], hne, fun x hx => (nomatch hx), Nat.le_refl _, by omega, Or.inr (fun s _ _ h => nomatch h), ?_⟩
    have l0 : ([] : List Nat).length = 0 := rfl
    rw [l0] at h4
    omega
  · refine Or.inr ⟨A', B ++ nw, mm, eE, zA, hpk, by omega, h2, ?_, by omega⟩
    rcases h3 with h3 | h3
    · exact Or.inl (by omega)
    · by_cases mv : ∃ s, s < bk ∧ bp2 s ≠ bp0 s
      · have := n2 mv
        exact Or.inl (by omega)
      · have mv' : ∀ s, s < bk → bp2 s = bp0 s := fun s hs => by
          apply Classical.byContradiction
          intro q
          exact mv ⟨s, hs, q⟩
        refine Or.inr (fun s hs h0 hx oh => ?_)
        have oh0 := f5 mv' s hs oh
        rcases f6 mv' s hs h0 hx with q | q
        · exact f3 s hs oh0 q.1 q.2
        · exact h3 s hs q.1 q.2 oh0
end BE
end
section
/-! workOnFirstCar -/
section WK
theorem rl_lan {l : List Nat} (h : l ≠ []) (p q : Nat) : rl_la p l = rl_la q l := by
  cases l with
  | nil => exact absurd rfl h
  | cons x xs => rfl
theorem li_a {j a b : Nat} (h : j - 1 ≤ a) (e : a + 1 = b) : j ≤ b := by omega
variable {k1 k2 k3 k4 rl st : Int32} {rc mb ft lt tc bk sk qc mt : Nat} {ra sr fo so he rn rp tf cn cu rh th tt tk bo bp : Nat → Nat} {va qu sl : Nat → Int32} {c : Nat} {fc : Nat → Nat} {vl : Nat → Int32} {E : Nat → Nat → Nat} {Ro : Nat → Nat} {L R : Nat → List Nat} {j p : Nat}
theorem mv_W0 (W : mv_W 0 bk bo fc vl E Ro rc ra sr fo va so he R rn rp rh L tf cn cu th tt tk bp) : mv_W c bk bo fc vl E Ro rc ra sr fo va so he R rn rp rh L tf cn cu th tt tk bp := by
  obtain ⟨⟨h1, h2, h3, h4, h5⟩, W⟩ := W
  exact ⟨⟨h1, h2, h3, h4, fun x x1 x2 x3 _ => h5 x x1 x2 x3 (by omega)⟩, W⟩
theorem be_held (W : mv_W 0 bk bo fc vl E Ro rc ra sr fo va so he R rn rp rh L tf cn cu th tt tk bp) (hf : 1 ≤ ft) (hf' : ft ≤ 5) (h : (∃ r, r < rc ∧ ra r ≠ 0 ∧ tf (ra r / 4) = ft) ∨ ∃ c, c ∈ L ft ∧ ∃ x, x ∈ R c ∧ tf (x / 16) ≠ ft) : ∃ o, o < bk ∧ bp o ≠ 0 ∧ tf (bp o / 4) = ft ∧ li_OH rc bk E Ro ft bp tf o := by
  rcases h with ⟨r, hr, h0, ht⟩ | ⟨d, hd, x, hx, ht⟩
  · obtain ⟨e, T⟩ := W.1.2.2.2.1 r hr
    obtain ⟨t, t0, t1, t2⟩ := ph_tgt T e.symm h0
    exact ⟨t, t1, by rw [t2]; exact h0, by rw [t2]; exact ht, Or.inl ⟨r, hr, t0⟩⟩
  · obtain ⟨m1, m2, m3⟩ := (W.2.1.2.1 ft d hf hf').mp hd
    obtain ⟨n1, n2, n3, n4⟩ := (W.2.2.1.2.2.2 d x m2).mp hx
    obtain ⟨h, hh, h0, h3, h4, f, hf3, h5⟩ := ph_hold W m2 hx rfl
    obtain ⟨t, t0, t1, t2⟩ := ph_tgt ((W.1.1 h hh h0).2.2.2.2.2.2 f hf3).2 h5 n2
    exact ⟨t, t1, by rw [t2]; exact n2, by rw [t2, n3]; exact m3, Or.inr ⟨h, hh, h0, by rw [h3]; exact ht, f, hf3, t0⟩⟩
theorem be_free (W : mv_W 0 bk bo fc vl E Ro rc ra sr fo va so he R rn rp rh L tf cn cu th tt tk bp) (hf : 1 ≤ ft) (hf' : ft ≤ 5) (n2 : ∀ c, c ∈ L ft → ∀ x, x ∈ R c → tf (x / 16) = ft) : ∀ h, h < bk → bp h ≠ 0 → tf (bp h / 4) ≠ ft → ∀ f, f < 3 → hp_pl bp (E h f) ≠ 0 → tf (hp_pl bp (E h f) / 4) ≠ ft := by
  intro h hh h0 ht f hf3 p0 q
  obtain ⟨t, t0, t1, t2⟩ := ph_tgt ((W.1.1 h hh h0).2.2.2.2.2.2 f hf3).2 rfl p0
  have a := (ab_of W).1 t t1 (by rw [t2]; exact p0)
  rw [t2] at a
  obtain ⟨x1, x2, x3⟩ := ph_cell W hh h0 hf3 rfl p0 a.2.1 (fun e => ht (by rw [e]; exact q))
  have := n2 _ ((W.2.1.2.1 ft _ hf hf').mpr ⟨by omega, by omega, q⟩) _ x1
  rw [x3] at this
  exact ht this
theorem be_cut (h0 : L ft ≠ []) (V : li_P rc bk ft E Ro bp L tf cu j p) : ∃ c A' B, L ft = c :: (A' ++ B) ∧ (∀ x, x ∈ B → (x = rl_la 0 (L ft) ∨ cu x = 4)) ∧ (j = 0 ∨ ∃ mm, li_N bk ft bp tf ≤ mm ∧ mm ≤ 24 ∧ (li_N bk ft bp tf < mm ∨ ∀ s, s < bk → bp s ≠ 0 → bp s / 4 ∈ B → ¬ li_OH rc bk E Ro ft bp tf s) ∧ (j - 1) * 109 + (A'.length + 1) + li_S mm + 1 ≤ p) := by
  rcases V with V | ⟨A, B, mm, v1, v2, v3, v4, v5, v6, v7⟩
  · cases e : L ft with
    | nil => exact absurd e h0
    | cons c l => exact ⟨c, l, [], by rw [List.append_nil], fun x hx => (nomatch hx), Or.inl V⟩
  · cases A with
    | nil => exact absurd rfl v2
    | cons c A' => exact ⟨c, A', B, v1, v3, Or.inr ⟨mm, v4, v5, v6, v7⟩⟩
theorem be_work {post : SX → Prop} (W : mv_W 0 bk bo fc vl E Ro rc ra sr fo va so he R rn rp rh L tf cn cu th tt tk bp) (RR : li_R ft lt tc L) (V : li_V rc bk ft tc E Ro bp L tf cu j p)
    (K : ∀ (ra' sr' fo' : Nat → Nat) (va' : Nat → Int32) (so' he' : Nat → Nat) (R' : Nat → List Nat) (rn' rp' rh' : Nat → Nat) (L' : Nat → List Nat) (tf' cn' cu' th' tt' tk' bp' : Nat → Nat) (qu' : Nat → Int32) (ft' lt' tc' : Nat), mv_W 0 bk bo fc vl E Ro rc ra' sr' fo' va' so' he' R' rn' rp' rh' L' tf' cn' cu' th' tt' tk' bp' → li_R ft' lt' tc' L' → (∀ t, t < bk → bp' t ≠ 0 → bp t ≠ 0) → (∃ j', li_V rc bk ft' tc' E Ro bp' L' tf' cu' j' (p - 1)) → post (k1, k2, k3, k4, nI rc, nI mb, nI ft', nI lt', nI tc', nI bk, nI sk, nI qc, nI mt, rl, st, na_A ra', na_A sr', na_A fo', va', na_A so', na_A he', na_A rn', na_A rp', na_A tf', na_A cn', na_A cu', na_A rh', na_A th', na_A tt', na_A tk', qu', na_A bo, na_A bp', sl)) : wpX_workOnFirstCar post (k1, k2, k3, k4, nI rc, nI mb, nI ft, nI lt, nI tc, nI bk, nI sk, nI qc, nI mt, rl, st, na_A ra, na_A sr, na_A fo, va, na_A so, na_A he, na_A rn, na_A rp, na_A tf, na_A cn, na_A cu, na_A rh, na_A th, na_A tt, na_A tk, qu, na_A bo, na_A bp, sl) := by
  obtain ⟨V1, V2, V3⟩ := V
  rcases RR with RR | ⟨G, NE⟩
  · have j0 : j = 0 := by omega
    exact br_t ((na_e0 (by omega)).mpr RR.1) (K ra sr fo va so he R rn rp rh L tf cn cu th tt tk bp qu ft lt tc W (Or.inl RR) (fun t _ h => h) ⟨j, V1, V2, Or.inl j0⟩)
  · obtain ⟨g1, g2, g3, g4, g5, g6, g7⟩ := G
    have hrc : rc ≤ 8 := W.2.2.2.2.2
    have hk : bk ≤ 24 := W.2.2.2.2.1
    have cost : j = 0 ∨ (j - 1) * 109 + 1 ≤ p := by
      rcases V3 with q | ⟨A, B, mm, v1, v2, v3, v4, v5, v6, v7⟩
      · exact Or.inl q
      · exact Or.inr (by omega)
    have cost' : (j - 1) * 109 ≤ p - 1 := by
      rcases cost with q | q
      · rw [q]; omega
      · omega
    refine br_f (fun q => by have := (na_e0 (by omega)).mp q; omega) (lu_th W.2.2.1 W.2.1 g1 g2 hrc (hp_rab W.1) (fun hh => br_f (by decide) ?_) (fun n1 n2 => br_t rfl ?_))
    · have hne : L ft ≠ [] := (NE ft g1 g2).mpr (by rw [li_rk0 g1 g2]; omega)
      obtain ⟨c, A', B, eL, pk, LL⟩ := be_cut hne V3
      obtain ⟨c1, c2, -, hct, -⟩ := tr_step (pre := []) W.2.1 g1 g2 eL
      have A0 := ab_of W
      have held := be_held W g1 g2 hh
      clear hh
      refine ⟨vp_in_nI (by omega) (by omega), nm_r (e' := nI c) (by rw [na_rd (by omega), ((W.2.1.1 ft g1 g2).2.2 (by omega)).1, eL]; rfl) ⟨9, ?_⟩⟩
      refine ph_W1 (bp0 := bp) (L0 := L) (tf0 := tf) (cu0 := cu) (j := j) (tm := tc) c1 c2 (fun ra1 sr1 fo1 va1 so1 he1 R1 rn1 rp1 rh1 L1 tf1 cn1 cu1 th1 tt1 tk1 bp1 qu1 lt1 tc1 W1 G1 hm Q1 N1 => ⟨5, ?_⟩) 9 0 ra sr fo va so he R rn rp rh L tf cn cu th tt tk bp qu lt tc (by omega) (by omega) (mv_W0 W) ⟨g1, g2, g3, g4, g5, g6, g7⟩ (Nat.le_refl _) ⟨fun t _ => Or.inl rfl, fun x _ => rfl, rfl, fun x _ => rfl, V2, fun t t1 t2 _ => NE t t1 t2⟩ (fun r hr => absurd hr (Nat.not_lt_zero r))
      refine ph_W2 (bp0 := bp) (L0 := L) (tf0 := tf) (cu0 := cu) (j := j) c1 c2 hct g1 g2 (fun ra2 sr2 fo2 va2 so2 he2 R2 rn2 rp2 rh2 L2 tf2 cn2 cu2 th2 tt2 tk2 bp2 qu2 W2 Q2 N1 N2 => ⟨5, ?_⟩) 5 0 ra1 sr1 fo1 va1 so1 he1 R1 rn1 rp1 rh1 L1 tf1 cn1 cu1 th1 tt1 tk1 bp1 qu1 (by omega) (by omega) W1 Q1 N1 (fun i hi => absurd hi (Nat.not_lt_zero i))
      refine ph_W3 (bp2 := bp2) (L2 := L2) (tf2 := tf2) (A' := A') c1 c2 g1 g2 (fun ra3 sr3 fo3 va3 so3 he3 R3 rn3 rp3 rh3 L3 tf3 cn3 cu3 th3 tt3 tk3 bp3 qu3 W3 Q3 N1' N3 => ?_) 5 0 ra2 sr2 fo2 va2 so2 he2 R2 rn2 rp2 rh2 L2 tf2 cn2 cu2 th2 tt2 tk2 bp2 qu2 (by omega) (by omega) W2 ⟨fun t _ => Or.inl rfl, fun x _ => rfl, fun t _ => rfl, ⟨[], by rw [List.append_nil]⟩, fun x hx hx1 hx2 => ?_⟩ N1 (fun i hi => absurd hi (Nat.not_lt_zero i))
      · obtain ⟨nw, e3'⟩ := Q3.2.2.2.1
        have e3 : L3 ft = c :: (A' ++ (B ++ nw)) := by
          rw [e3', Q2.2.2.1, eL, List.cons_append, List.append_assoc]
        have NE3 : ∀ t, 1 ≤ t → t ≤ 5 → (L3 t ≠ [] ↔ tr_rk ft t < tc1) := fun t t1 t2 => by
          by_cases z : t = ft
          · rw [z, e3, li_rk0 g1 g2]
            have := G1.2.2.2.2.1
            exact ⟨fun _ => by omega, fun _ q => nomatch q⟩
          · rw [Q3.2.2.1 t z]
            exact Q2.2.2.2.2.2 t t1 t2 (by omega)
        have nd : (L3 ft).Nodup := (W3.2.1.1 ft g1 g2).1
        rw [e3] at nd
        have nd1 := List.nodup_cons.mp nd
        have nd2 := List.nodup_append.mp nd1.2
        refine dr_ret W3 g1 g2 G1.2.2.2.2.1 G1.2.2.2.2.2.1 e3 N1' N3 (fun z ra' sr' fo' va' so' he' R' rn' rp' rh' L' tf' cn' cu' th' tt' tk' bp' W' eE FR ND => ?_) (fun z ra' sr' fo' va' so' he' R' rn' rp' rh' L' tf' cn' cu' th' tt' tk' bp' W' eE FR ND => ?_)
        · have F := be_facts g1 g2 A0 hct eL Q2 (ab_of W2) N1 N2 Q3 (ab_of W3) e3 FR ND
          have RE := li_Rc G1 NE3 eE FR.2.2
          refine K ra' sr' fo' va' so' he' R' rn' rp' rh' L' tf' cn' cu' th' tt' tk' bp' qu3 (tr_nt ft) lt1 (tc1 - 1) W' RE F.2.2.2.2.2.2 ⟨j - 1, Nat.sub_le_sub_right (Nat.le_trans V1 hm) 1, fun t ht t0 hj => ?_, li_fresh (ab_of W') hk RE (Nat.sub_le_sub_right (Nat.le_trans V1 hm) 1) cost'⟩
          obtain ⟨a1, a2, a3, a4, a5⟩ := (ab_of W').1 t ht t0
          have hn : tf' (bp' t / 4) ≠ ft := fun q => by
            have : bp' t / 4 ∈ L' ft := (W'.2.1.2.1 ft _ g1 g2).mpr ⟨by omega, by omega, q⟩
            rw [eE] at this
            exact nomatch this
          have := li_rk1 g1 g2 (t := tf' (bp' t / 4)) (by omega) (W'.2.1.2.2.1 _) hn
          exact F.2.2.2.1 t ht t0 (li_a hj this)
        · have F := be_facts g1 g2 A0 hct eL Q2 (ab_of W2) N1 N2 Q3 (ab_of W3) e3 FR ND
          refine K ra' sr' fo' va' so' he' R' rn' rp' rh' L' tf' cn' cu' th' tt' tk' bp' qu3 ft lt1 tc1 W' (Or.inr ⟨G1, fun t t1 t2 => ?_⟩) F.2.2.2.2.2.2 ⟨j, Nat.le_trans V1 hm, F.2.2.2.1, ?_⟩
          · by_cases w : t = ft
            · rw [w, eE, li_rk0 g1 g2]
              have := G1.2.2.2.2.1
              exact ⟨fun _ => by omega, fun _ => z⟩
            · rw [FR.2.2 t w]
              exact NE3 t t1 t2
          · rcases LL with LL | ⟨mm, l1, l2, l3, l4⟩
            · exact Or.inl LL
            · refine be_P2 (c := c) (bp0 := bp) (tf0 := tf) (cu0 := cu) (L0 := L) (bp2 := bp2) (A' := A') (B := B) (nw := nw) g1 g2 hk F A0 eL (ab_of W') eE z l1 l2 l3 l4 (fun x hx => ?_) held
              have xc : x ≠ c := fun q => nd1.1 (q ▸ List.mem_append_right A' hx)
              have xA : x ∉ A' := fun q => nd2.2.2 x q x hx rfl
              have := Q3.2.2.2.2 x (by rw [e3]; exact List.mem_cons_of_mem _ (List.mem_append_right A' hx)) xA xc
              rw [(FR.2.1 x xc).2, eE, rl_lan z 0 c]
              rw [e3] at this
              exact this
      · rw [Q2.2.2.1] at hx ⊢
        rw [Q2.2.2.2.1 x hx]
        rw [eL] at hx
        rcases List.mem_cons.mp hx with q | q
        · exact absurd q hx2
        · rcases List.mem_append.mp q with q | q
          · exact absurd q hx1
          · exact pk x q
    · refine dr_relT W g1 g2 g5 g6 (fun r hr h0 => ?_) (be_free W g1 g2 n2) (fun ra' sr' fo' va' so' he' R' rn' rp' rh' L' tf' cn' cu' th' tt' tk' bp' W' eE FR ND => ?_)
      · rw [← (W.1.2.2.2.1 r hr).1] at h0 ⊢
        exact n1 r hr h0
      · have RE := li_Rc ⟨g1, g2, g3, g4, g5, g6, g7⟩ NE eE FR.2.2
        refine K ra' sr' fo' va' so' he' R' rn' rp' rh' L' tf' cn' cu' th' tt' tk' bp' qu (tr_nt ft) lt (tc - 1) W' RE (fun t ht t0 => (FR.1 t ht).elim (fun q => by rw [← q]; exact t0) (fun q => absurd q.1 t0)) ⟨j - 1, by omega, fun t ht t0 hj => ?_, li_fresh (ab_of W') hk RE (by omega) cost'⟩
        have e : bp' t = bp t := (FR.1 t ht).elim id (fun q => absurd q.1 t0)
        have nd := ND t ht t0
        rw [e] at t0 nd hj
        rw [(FR.2.1 _ nd).1] at hj
        obtain ⟨a1, a2, a3, a4, a5⟩ := (ab_of W).1 t ht t0
        have hn : tf (bp t / 4) ≠ ft := fun q => nd ((W.2.1.2.1 ft _ g1 g2).mpr ⟨by omega, by omega, q⟩)
        have := li_rk1 g1 g2 (t := tf (bp t / 4)) (by omega) (W.2.1.2.2.1 _) hn
        exact V2 t ht t0 (by omega)
end WK
end
section
/-! compaction of the books: pure -/
section CO
def se_K (a : Nat → Nat) : Nat → Nat
  | 0 => 0
  | i + 1 => if a i = 0 then se_K a i else se_K a i + 1
def se_C {α : Type} (a : Nat → Nat) (f : Nat → α) : Nat → Nat → α
  | 0 => f
  | i + 1 => fun x => if a i ≠ 0 ∧ x = se_K a i then f i else se_C a f i x
variable {a : Nat → Nat}
theorem se_K1 {i : Nat} (h : a i = 0) : se_K a (i + 1) = se_K a i := if_pos h
theorem se_K2 {i : Nat} (h : a i ≠ 0) : se_K a (i + 1) = se_K a i + 1 := if_neg h
theorem se_Kle : ∀ i, se_K a i ≤ i := by
  intro i
  induction i with
  | zero => exact Nat.le_refl _
  | succ i ih =>
    by_cases h : a i = 0
    · rw [se_K1 h]; omega
    · rw [se_K2 h]; omega
theorem se_Kmo {i j : Nat} (h : i ≤ j) : se_K a i ≤ se_K a j := by
  induction j with
  | zero =>
    have : i = 0 := by omega
    rw [this]; exact Nat.le_refl _
  | succ j ih =>
    by_cases z : i = j + 1
    · rw [z]; exact Nat.le_refl _
    · have := ih (by omega)
      by_cases h : a j = 0
      · rw [se_K1 h]; exact this
      · rw [se_K2 h]; omega
theorem se_Klt {i j : Nat} (h : i < j) (ha : a i ≠ 0) : se_K a i < se_K a j := by
  have h1 := se_K2 ha
  have h2 := se_Kmo (a := a) (show i + 1 ≤ j from h)
  omega
theorem se_Kin {i j : Nat} (hi : a i ≠ 0) (hj : a j ≠ 0) (e : se_K a i = se_K a j) : i = j := by
  by_cases h : i < j
  · have := se_Klt h hi; omega
  · by_cases h' : j < i
    · have := se_Klt h' hj; omega
    · omega
theorem se_Ksu : ∀ (i k : Nat), k < se_K a i → ∃ s, s < i ∧ a s ≠ 0 ∧ se_K a s = k := by
  intro i
  induction i with
  | zero => intro k h; exact absurd h (Nat.not_lt_zero k)
  | succ i ih =>
    intro k h
    by_cases z : a i = 0
    · rw [se_K1 z] at h
      obtain ⟨s, s1, s2, s3⟩ := ih k h
      exact ⟨s, by omega, s2, s3⟩
    · rw [se_K2 z] at h
      by_cases w : k = se_K a i
      · exact ⟨i, by omega, z, w.symm⟩
      · obtain ⟨s, s1, s2, s3⟩ := ih k (by omega)
        exact ⟨s, by omega, s2, s3⟩
theorem se_C0 {α : Type} {f : Nat → α} {i : Nat} (h : a i = 0) : se_C a f (i + 1) = se_C a f i := by
  funext x
  exact if_neg (fun q => q.1 h)
theorem se_Cge {α : Type} {f : Nat → α} : ∀ i x, i ≤ x → se_C a f i x = f x := by
  intro i
  induction i with
  | zero => intro x _; rfl
  | succ i ih =>
    intro x hx
    have := se_Kle (a := a) i
    show (if a i ≠ 0 ∧ x = se_K a i then f i else se_C a f i x) = f x
    rw [if_neg (by omega)]
    exact ih x (by omega)
theorem se_Cs {α : Type} {f : Nat → α} : ∀ i s, s < i → a s ≠ 0 → se_C a f i (se_K a s) = f s := by
  intro i
  induction i with
  | zero => intro s h; exact absurd h (Nat.not_lt_zero s)
  | succ i ih =>
    intro s hs h
    show (if a i ≠ 0 ∧ se_K a s = se_K a i then f i else se_C a f i (se_K a s)) = f s
    by_cases z : s = i
    · rw [z] at h ⊢; rw [if_pos ⟨h, rfl⟩]
    · by_cases w : a i ≠ 0 ∧ se_K a s = se_K a i
      · exact absurd (se_Kin h w.1 w.2) z
      · rw [if_neg w]; exact ih s (by omega) h
theorem se_Cu {f : Nat → Nat} {i : Nat} (h : a i ≠ 0) : na_u (se_C a f i) (se_K a i) (se_C a f i i) = se_C a f (i + 1) := by
  funext x
  show (if x = se_K a i then se_C a f i i else se_C a f i x) = if a i ≠ 0 ∧ x = se_K a i then f i else se_C a f i x
  by_cases z : x = se_K a i
  · rw [if_pos z, if_pos ⟨h, z⟩, se_Cge i i (Nat.le_refl _)]
  · rw [if_neg z, if_neg (fun q => z q.2)]
theorem se_Cv {f : Nat → Int32} {i : Nat} (h : a i ≠ 0) : upd (se_C a f i) (se_K a i) (se_C a f i i) = se_C a f (i + 1) := by
  funext x
  show (if x = se_K a i then se_C a f i i else se_C a f i x) = if a i ≠ 0 ∧ x = se_K a i then f i else se_C a f i x
  by_cases z : x = se_K a i
  · rw [if_pos z, if_pos ⟨h, z⟩, se_Cge i i (Nat.le_refl _)]
  · rw [if_neg z, if_neg (fun q => z q.2)]
/-- the struck list -/
def se_D (a bo : Nat → Nat) (sl : Nat → Int32) : Nat → Nat → Int32
  | 0 => sl
  | i + 1 => if a i = 0 then upd (se_D a bo sl i) (i - se_K a i) (nI (bo i)) else se_D a bo sl i
theorem se_D1 {bo : Nat → Nat} {sl : Nat → Int32} {i : Nat} (h : a i = 0) : se_D a bo sl (i + 1) = upd (se_D a bo sl i) (i - se_K a i) (nI (bo i)) := if_pos h
theorem se_D2 {bo : Nat → Nat} {sl : Nat → Int32} {i : Nat} (h : a i ≠ 0) : se_D a bo sl (i + 1) = se_D a bo sl i := if_neg h
/-- where on the books each object stands -/
def se_O (a so : Nat → Nat) : Nat → Nat → Nat
  | 0 => so
  | i + 1 => if a i = 0 then se_O a so i else na_u (se_O a so i) (a i) (se_K a i)
theorem se_O1 {so : Nat → Nat} {i : Nat} (h : a i = 0) : se_O a so (i + 1) = se_O a so i := if_pos h
theorem se_O2 {so : Nat → Nat} {i : Nat} (h : a i ≠ 0) : se_O a so (i + 1) = na_u (se_O a so i) (a i) (se_K a i) := if_neg h
theorem se_Os {so : Nat → Nat} {n : Nat} (inj : ∀ s s', s < n → s' < n → a s ≠ 0 → a s = a s' → s = s') : ∀ i s, i ≤ n → s < i → a s ≠ 0 → se_O a so i (a s) = se_K a s := by
  intro i
  induction i with
  | zero => intro s _ h; exact absurd h (Nat.not_lt_zero s)
  | succ i ih =>
    intro s hn hs h
    by_cases z : s = i
    · rw [z] at h ⊢
      rw [se_O2 h, na_us]
    · have g := ih s (by omega) (by omega) h
      by_cases w : a i = 0
      · rw [se_O1 w]; exact g
      · rw [se_O2 w, na_un (fun q => z (inj s i (by omega) (by omega) h q))]
        exact g
/-- the cells -/
def se_E (a ce : Nat → Nat) : Nat → Nat → Nat
  | 0 => ce
  | i + 1 => fun x => if a i ≠ 0 ∧ x / 3 = se_K a i then ce (3 * i + x % 3) else se_E a ce i x
theorem se_Ege {ce : Nat → Nat} : ∀ i x, 3 * i ≤ x → se_E a ce i x = ce x := by
  intro i
  induction i with
  | zero => intro x _; rfl
  | succ i ih =>
    intro x hx
    have := se_Kle (a := a) i
    show (if a i ≠ 0 ∧ x / 3 = se_K a i then ce (3 * i + x % 3) else se_E a ce i x) = ce x
    rw [if_neg (by omega)]
    exact ih x (by omega)
theorem se_Es {ce : Nat → Nat} : ∀ i s f, s < i → f < 3 → a s ≠ 0 → se_E a ce i (3 * se_K a s + f) = ce (3 * s + f) := by
  intro i
  induction i with
  | zero => intro s f h; exact absurd h (Nat.not_lt_zero s)
  | succ i ih =>
    intro s f hs hf h
    show (if a i ≠ 0 ∧ (3 * se_K a s + f) / 3 = se_K a i then ce (3 * i + (3 * se_K a s + f) % 3) else se_E a ce i (3 * se_K a s + f)) = ce (3 * s + f)
    have e1 : (3 * se_K a s + f) / 3 = se_K a s := by omega
    have e2 : (3 * se_K a s + f) % 3 = f := by omega
    rw [e1, e2]
    by_cases z : s = i
    · rw [z] at h ⊢; rw [if_pos ⟨h, rfl⟩]
    · by_cases w : a i ≠ 0 ∧ se_K a s = se_K a i
      · exact absurd (se_Kin h w.1 w.2) z
      · rw [if_neg w]; exact ih s f (by omega) hf h
theorem se_E1 {ce : Nat → Nat} {i : Nat} (h : a i = 0) : se_E a ce (i + 1) = se_E a ce i := by
  funext x
  exact if_neg (fun q => q.1 h)
/-- the cells while the f-th of slot i is being copied -/
def se_Ef (a ce : Nat → Nat) (i : Nat) : Nat → Nat → Nat
  | 0 => se_E a ce i
  | f + 1 => na_u (se_Ef a ce i f) (3 * se_K a i + f) (se_Ef a ce i f (3 * i + f))
theorem se_Efs {ce : Nat → Nat} {i : Nat} : ∀ f, f ≤ 3 → ∀ x, se_Ef a ce i f x = if x / 3 = se_K a i ∧ x % 3 < f then ce (3 * i + x % 3) else se_E a ce i x := by
  intro f
  induction f with
  | zero => intro _ x; rw [if_neg (by omega)]; rfl
  | succ f ih =>
    intro hf x
    have hk := se_Kle (a := a) i
    show na_u (se_Ef a ce i f) (3 * se_K a i + f) (se_Ef a ce i f (3 * i + f)) x = _
    have e : se_Ef a ce i f (3 * i + f) = ce (3 * i + f) := by
      rw [ih (by omega)]
      by_cases w : (3 * i + f) / 3 = se_K a i ∧ (3 * i + f) % 3 < f
      · omega
      · rw [if_neg w, se_Ege i _ (by omega)]
    by_cases z : x = 3 * se_K a i + f
    · have e2 : x % 3 = f := by omega
      rw [if_pos (by omega), z, na_us, e, ← z, e2]
    · rw [na_un z, ih (by omega)]
      by_cases w : x / 3 = se_K a i ∧ x % 3 < f
      · rw [if_pos w, if_pos (by omega)]
      · rw [if_neg w, if_neg (by omega)]
theorem se_Ef3 {ce : Nat → Nat} {i : Nat} (h : a i ≠ 0) : se_Ef a ce i 3 = se_E a ce (i + 1) := by
  funext x
  rw [se_Efs 3 (Nat.le_refl _)]
  show _ = if a i ≠ 0 ∧ x / 3 = se_K a i then ce (3 * i + x % 3) else se_E a ce i x
  by_cases z : x / 3 = se_K a i
  · rw [if_pos ⟨z, by omega⟩, if_pos ⟨h, z⟩]
  · rw [if_neg (fun q => z q.1), if_neg (fun q => z q.2)]
end CO
end
section
/-! settle: the heap's picture over the compacted books; X's walk -/
section SX1
def se_re (a : Nat → Nat) (e : Nat) : Nat := if e = 0 then 0 else se_K a (e - 1) + 1
def se_X (a : Nat → Nat) (bk : Nat) (E : Nat → Nat → Nat) : Nat → Nat → Nat := fun k f => se_C a (fun s => se_re a (E s f)) bk k
theorem se_re0 {a : Nat → Nat} : se_re a 0 = 0 := rfl
theorem se_re1 {a : Nat → Nat} {t : Nat} : se_re a (t + 1) = se_K a t + 1 := rfl
variable {k1 k2 k3 k4 rl st : Int32} {rc mb ft lt tc bk sk qc mt : Nat} {ra sr fo so he rn rp tf cn cu rh th tt tk bo bp : Nat → Nat} {va qu sl : Nat → Int32} {c : Nat} {fc : Nat → Nat} {vl : Nat → Int32} {E : Nat → Nat → Nat} {Ro : Nat → Nat} {L R : Nat → List Nat} {j p : Nat}
theorem se_pl {g : Nat → Nat} {e : Nat} (T : hp_T bk bp e) : hp_pl (se_C bp g bk) (se_re bp e) = hp_pl g e := by
  cases e with
  | zero => rfl
  | succ t =>
    rcases T with T | T
    · omega
    · rw [se_re1, hp_1, hp_1]
      exact se_Cs bk t (by omega) T.2
theorem se_T {e : Nat} (T : hp_T bk bp e) : hp_T (se_K bp bk) (se_C bp bp bk) (se_re bp e) := by
  cases e with
  | zero => exact Or.inl rfl
  | succ t =>
    rcases T with T | T
    · omega
    · refine Or.inr ⟨?_, ?_⟩
      · rw [se_re1]
        exact se_Klt (a := bp) (show t < bk by omega) T.2
      · rw [se_re1]
        show se_C bp bp bk (se_K bp t) ≠ 0
        rw [se_Cs bk t (by omega) T.2]
        exact T.2
theorem se_W (W : mv_W 0 bk bo fc vl E Ro rc ra sr fo va so he R rn rp rh L tf cn cu th tt tk bp) : mv_W 0 (se_K bp bk) (se_C bp bo bk) (se_C bp fc bk) (se_C bp vl bk) (se_X bp bk E) (fun r => se_re bp (Ro r)) rc ra sr fo va (se_O bp so bk) he R rn rp rh L tf cn cu th tt tk (se_C bp bp bk) := by
  have inj := (ab_of W).2.1
  obtain ⟨⟨h1, h2, h3, h4, h5⟩, TI, RI, hB, hk, hrc⟩ := W
  have kle := se_Kle (a := bp) bk
  refine ⟨⟨fun k hk' k0 => ?_, fun q hq q0 => ?_, h3, fun r hr => ?_, h5⟩, TI, RI, fun k hk' => ?_, by omega, hrc⟩
  · obtain ⟨s, s1, s2, rfl⟩ := se_Ksu bk k hk'
    rw [se_Cs bk s s1 s2, se_Cs bk s s1 s2, se_Cs bk s s1 s2, se_Cs bk s s1 s2, se_Os inj bk s (Nat.le_refl _) s1 s2]
    obtain ⟨o1, o2, o3, o4, o5, o6, o7⟩ := h1 s s1 s2
    refine ⟨o1, o2, o3, rfl, o5, o6, fun f hf => ?_⟩
    have e : se_X bp bk E (se_K bp s) f = se_re bp (E s f) := se_Cs bk s s1 s2
    obtain ⟨v1, v2⟩ := o7 f hf
    rw [e, se_pl v2]
    exact ⟨v1, se_T v2⟩
  · obtain ⟨p1, p2, p3, p4, p5⟩ := h2 q hq q0
    have a0 : bp (so q) ≠ 0 := by rw [p2]; exact p5
    have e : se_O bp so bk q = se_K bp (so q) := by
      have := se_Os (so := so) inj bk (so q) (Nat.le_refl _) p1 a0
      rw [p2] at this
      exact this
    rw [e, se_Cs bk _ p1 a0]
    exact ⟨se_Klt p1 a0, p2, p3, p4, p5⟩
  · obtain ⟨v1, v2⟩ := h4 r hr
    refine ⟨?_, se_T v2⟩
    rw [se_pl v2]
    exact v1
  · obtain ⟨s, s1, s2, rfl⟩ := se_Ksu bk k hk'
    rw [se_Cs bk s s1 s2]
    exact hB s s1
theorem se_X9 {post : SX → Prop} (hk : bk ≤ 24) (hb : ∀ s, s < bk → bp s < 112)
    (K : post (k1, k2, k3, k4, nI rc, nI mb, nI ft, nI lt, nI tc, nI (se_K bp bk), nI (bk - se_K bp bk), nI qc, nI mt, rl + (nI bk - nI (se_K bp bk)), st + 1, na_A ra, na_A sr, na_A fo, va, na_A (se_O bp so bk), na_A he, na_A rn, na_A rp, na_A tf, na_A cn, na_A cu, na_A rh, na_A th, na_A tt, na_A tk, qu, na_A (se_C bp bo bk), na_A (se_C bp bp bk), se_D bp bo sl bk)) :
    ∀ n i, i ≤ bk → bk - i < n → wX_settle_9 post k1 k2 k3 k4 (nI rc) (nI mb) (nI ft) (nI lt) (nI tc) (nI bk) (nI qc) (nI mt) rl st n (nI (se_K bp i)) (nI i) (nI (i - se_K bp i)) (na_A ra) (na_A sr) (na_A fo) va (na_A (se_O bp so i)) (na_A he) (na_A rn) (na_A rp) (na_A tf) (na_A cn) (na_A cu) (na_A rh) (na_A th) (na_A tt) (na_A tk) qu (na_A (se_C bp bo i)) (na_A (se_C bp bp i)) (se_D bp bo sl i) := by
  intro n
  induction n with
  | zero => intro i _ h; omega
  | succ n ih =>
    intro i h1 h2
    have kle := se_Kle (a := bp) i
    rw [wX_settle_9]
    refine pk_le bk i (fun z => ?_) (fun z => ?_)
    · have : i = bk := by omega
      subst this
      exact nm_e (nm_e K)
    · have w : vp_in (nI i) 24 := vp_in_nI (by omega) (by omega)
      have eb : na_A (se_C bp bp i) (nI i).toNatClampNeg = nI (bp i) := by rw [na_rd (by omega), se_Cge i i (Nat.le_refl _)]
      have eo : na_A (se_C bp bo i) (nI i).toNatClampNeg = nI (se_C bp bo i i) := na_rd (by omega)
      have hbi := hb i z
      refine ⟨w, nm_r eb ?_⟩
      by_cases y : bp i = 0
      · refine br_t ((na_e0 (by omega)).mpr y) ⟨w, vp_in_nI (by omega) (by omega), nm_r (e' := se_D bp bo sl (i + 1)) ?_ (nm_r (nI_1 _) (nm_r (nI_1 i) ?_))⟩
        · rw [eo, nI_clamp (n := i - se_K bp i) (by omega), se_Cge i i (Nat.le_refl _), se_D1 y]
        · have := ih (i + 1) (by omega) (by omega)
          have e1 : i + 1 - se_K bp (i + 1) = i - se_K bp i + 1 := by rw [se_K1 y]; omega
          rw [e1, se_K1 y, se_O1 y, se_C0 y, se_C0 y] at this
          exact this
      · refine br_f (fun q => y ((na_e0 (by omega)).mp q)) ⟨w, vp_in_nI (by omega) (by omega), nm_r (e' := na_A (se_C bp bo (i + 1))) ?_ ⟨vp_in_nI (by omega) (by omega), nm_r (e' := na_A (se_C bp bp (i + 1))) ?_ ⟨vp_in_nI hbi (by omega), nm_r (e' := na_A (se_O bp so (i + 1))) ?_ (nm_r (nI_1 _) (nm_r (nI_1 i) ?_))⟩⟩⟩
        · rw [eo, na_wr (by omega), se_Cu y]
        · have := se_Cu (f := bp) y
          rw [se_Cge i i (Nat.le_refl _)] at this
          rw [na_wr (by omega), this]
        · rw [na_wr (by omega), se_O2 y]
        · have := ih (i + 1) (by omega) (by omega)
          have e1 : i + 1 - se_K bp (i + 1) = i - se_K bp i := by rw [se_K2 y]; omega
          rw [e1, se_K2 y, se_D2 y] at this
          exact this
theorem se_Xs {post : SX → Prop} (hk : bk ≤ 24) (hb : ∀ s, s < bk → bp s < 112)
    (K : post (k1, k2, k3, k4, nI rc, nI mb, nI ft, nI lt, nI tc, nI (se_K bp bk), nI (bk - se_K bp bk), nI qc, nI mt, rl + (nI bk - nI (se_K bp bk)), st + 1, na_A ra, na_A sr, na_A fo, va, na_A (se_O bp so bk), na_A he, na_A rn, na_A rp, na_A tf, na_A cn, na_A cu, na_A rh, na_A th, na_A tt, na_A tk, qu, na_A (se_C bp bo bk), na_A (se_C bp bp bk), se_D bp bo sl bk)) : wpX_settle post (k1, k2, k3, k4, nI rc, nI mb, nI ft, nI lt, nI tc, nI bk, nI sk, nI qc, nI mt, rl, st, na_A ra, na_A sr, na_A fo, va, na_A so, na_A he, na_A rn, na_A rp, na_A tf, na_A cn, na_A cu, na_A rh, na_A th, na_A tt, na_A tk, qu, na_A bo, na_A bp, sl) :=
  ⟨25, se_X9 hk hb K 25 0 (Nat.zero_le _) (by omega)⟩
end SX1
end
section
/-! Y: place, mark -/
section MK
variable {rl st : Int32} {rc mb bk sk qc mt : Nat} {bo rq fc ce bp : Nat → Nat} {vl mk sl : Nat → Int32} {E : Nat → Nat → Nat} {Ro : Nat → Nat}
theorem yp_2 {post : Int32 → Prop} {x : Int32} (hk : bk ≤ 24) (k1 : ∀ s, s < bk → nI (bo s) = x → post (nI s)) (k0 : (∀ s, s < bk → nI (bo s) ≠ x) → post (-1)) :
    ∀ n i, i ≤ bk → bk - i < n → (∀ s, s < i → nI (bo s) ≠ x) → wY_place_2 post x (nI rc) (nI mb) (nI bk) (nI sk) (nI qc) (nI mt) rl st (na_A rq) (na_A bo) (na_A fc) vl (na_A ce) mk sl n (nI i) := by
  intro n
  induction n with
  | zero => intro i _ h; omega
  | succ n ih =>
    intro i h1 h2 h3
    rw [wY_place_2]
    refine pk_le bk i (fun z => k0 (fun s hs => h3 s (by omega))) (fun z => ⟨vp_in_nI (by omega) (by omega), ?_⟩)
    rw [na_rd (by omega)]
    by_cases y : nI (bo i) = x
    · exact br_t y (k1 i z y)
    · refine br_f y (nm_r (nI_1 i) (ih (i + 1) (by omega) (by omega) (fun s hs => ?_)))
      by_cases w : s = i
      · rw [w]; exact y
      · exact h3 s (by omega)
theorem yp_place {post : Int32 → Prop} {x : Int32} (hk : bk ≤ 24) (k1 : ∀ s, s < bk → nI (bo s) = x → post (nI s)) (k0 : (∀ s, s < bk → nI (bo s) ≠ x) → post (-1)) : wpY_place post (nI rc, nI mb, nI bk, nI sk, nI qc, nI mt, rl, st, na_A rq, na_A bo, na_A fc, vl, na_A ce, mk, sl) x :=
  ⟨25, yp_2 hk k1 k0 25 0 (Nat.zero_le _) (by omega) (fun s hs => absurd hs (Nat.not_lt_zero s))⟩
/-- the place of what a link holds -/
theorem yp_e {post : Int32 → Prop} {e : Nat} (hk : bk ≤ 24) (B1 : ∀ s, s < bk → bo s ≠ 0 ∧ bo s < 2 ^ 31) (B2 : ∀ s s', s < bk → s' < bk → bo s = bo s' → s = s') (T : hp_T bk bp e) (k0 : e = 0 → post (-1)) (k1 : ∀ t, e = t + 1 → t < bk → bp t ≠ 0 → post (nI t)) : wpY_place post (nI rc, nI mb, nI bk, nI sk, nI qc, nI mt, rl, st, na_A rq, na_A bo, na_A fc, vl, na_A ce, mk, sl) (nI (hp_pl bo e)) := by
  refine yp_place hk (fun s hs h => ?_) (fun h => ?_)
  · cases e with
    | zero =>
      rw [hp_0] at h
      exact absurd ((nI_eq (B1 s hs).2 (by omega)).mp h) (B1 s hs).1
    | succ t =>
      rcases T with T | T
      · omega
      · rw [hp_1] at h
        have := B2 s t hs (by omega) ((nI_eq (B1 s hs).2 (B1 t (by omega)).2).mp h)
        rw [this]
        exact k1 t rfl (by omega) T.2
  · cases e with
    | zero => exact k0 rfl
    | succ t =>
      rcases T with T | T
      · omega
      · exact absurd rfl (h t (by omega))
def yf_Y (rc bk : Nat) (bo rq fc ce bp : Nat → Nat) (E : Nat → Nat → Nat) (Ro : Nat → Nat) : Prop :=
  bk ≤ 24 ∧ rc ≤ 8 ∧ (∀ s, s < bk → fc s ≤ 3) ∧ (∀ s, s < bk → bo s ≠ 0 ∧ bo s < 2 ^ 31) ∧ (∀ s s', s < bk → s' < bk → bo s = bo s' → s = s') ∧
  (∀ s, s < bk → bp s ≠ 0 → ∀ f, f < 3 → ce (3 * s + f) = hp_pl bo (E s f) ∧ (fc s ≤ f → E s f = 0) ∧ hp_T bk bp (E s f)) ∧
  (∀ r, r < rc → rq r = hp_pl bo (Ro r) ∧ hp_T bk bp (Ro r))
theorem rs_alive (Y : yf_Y rc bk bo rq fc ce bp E Ro) {s : Nat} (h : rs_R rc E Ro s) : s < bk ∧ bp s ≠ 0 := by
  obtain ⟨y1, y2, y3, y4, y5, y6, y7⟩ := Y
  refine h (fun s => s < bk ∧ bp s ≠ 0) (fun r hr t e => ?_) (fun s f t hs hf e => ?_)
  · have T := (y7 r hr).2
    rw [e] at T
    rcases T with T | T
    · omega
    · exact ⟨by omega, T.2⟩
  · have T := (y6 s hs.1 hs.2 f hf).2.2
    rw [e] at T
    rcases T with T | T
    · omega
    · exact ⟨by omega, T.2⟩
theorem mk_b1 : vp_nar .boolean 1 = 1 := by decide
theorem mk_b0 : vp_nar .boolean 0 = 0 := by decide
def mk_M (bk : Nat) (E : Nat → Nat → Nat) (mk0 mk : Nat → Int32) : Prop :=
  (∀ k, k < bk → mk0 k ≠ 0 → mk k ≠ 0) ∧ (∀ S : Nat → Prop, (∀ s f t, S s → f < 3 → E s f = t + 1 → S t) → (∀ k, k < bk → mk0 k ≠ 0 → S k) → ∀ k, k < bk → mk k ≠ 0 → S k)
theorem mk_M1 {mk0 : Nat → Int32} {i f t : Nat} (h : mk_M bk E mk0 mk) (hi : i < bk) (h0 : mk i ≠ 0) (hf : f < 3) (e : E i f = t + 1) : mk_M bk E mk0 (upd mk t 1) := by
  obtain ⟨a, b⟩ := h
  refine ⟨fun k hk hk0 => ?_, fun S s1 s2 k hk hk0 => ?_⟩
  · by_cases z : k = t
    · rw [z, pk_us]; decide
    · rw [pk_un z]; exact a k hk hk0
  · by_cases z : k = t
    · rw [z]; exact s1 i f t (b S s1 s2 i hi h0) hf e
    · rw [pk_un z] at hk0
      exact b S s1 s2 k hk hk0
theorem mk_79 {post : SY → Prop} {J1 J2 : _} {x1 : Int32} {i : Nat} {mk0 : Nat → Int32} (Y : yf_Y rc bk bo rq fc ce bp E Ro) (hi : i < bk) (h0 : ∀ k, k < bk → mk0 k ≠ 0 → bp k ≠ 0)
    (K : ∀ mk, mk_M bk E mk0 mk → (∀ k, k < i + 1 → mk0 k ≠ 0 → ∀ f, f < 3 → ∀ t, E k f = t + 1 → mk t ≠ 0) → J2 (nI (i + 1)) (na_A rq) (na_A bo) (na_A fc) vl (na_A ce) mk sl) :
    ∀ n f mk, f ≤ 3 → 3 - f < n → mk_M bk E mk0 mk → (∀ k, k < i → mk0 k ≠ 0 → ∀ f, f < 3 → ∀ t, E k f = t + 1 → mk t ≠ 0) → (∀ f', f' < f → mk0 i ≠ 0 → ∀ t, E i f' = t + 1 → mk t ≠ 0) → wY_mark_79 post J1 J2 x1 (nI i) (nI rc) (nI mb) (nI bk) (nI sk) (nI qc) (nI mt) rl st n (nI f) (na_A rq) (na_A bo) (na_A fc) vl (na_A ce) mk sl := by
  intro n
  obtain ⟨y1, y2, y3, y4, y5, y6, y7⟩ := Y
  have hfc := y3 i hi
  induction n with
  | zero => intro f mk _ h; omega
  | succ n ih =>
    intro f mk h1 h2 M h3 h4
    have w : vp_in (nI i) 24 := vp_in_nI (by omega) (by omega)
    rw [wY_mark_79]
    refine ⟨w, ?_⟩
    rw [na_rd (by omega)]
    have al : mk i ≠ 0 → bp i ≠ 0 := fun q => by
      refine (M.2 (fun k => k < bk ∧ bp k ≠ 0) (fun s f t hs hf e => ?_) (fun k hk hk0 => ⟨hk, h0 k hk hk0⟩) i hi q).2
      have T := (y6 s hs.1 hs.2 f hf).2.2
      rw [e] at T
      rcases T with T | T
      · omega
      · exact ⟨by omega, T.2⟩
    refine pk_le (fc i) f (fun z => nm_r (nI_1 i) (K mk M (fun k hk hk0 f' hf' t e => ?_))) (fun z => ?_)
    · by_cases v : k = i
      · rw [v] at hk0 e
        by_cases u : f' < f
        · exact h4 f' u hk0 t e
        · have b0 := al (M.1 i hi hk0)
          have := (y6 i hi b0 f' hf').2.1 (by omega)
          omega
      · exact h3 k (by omega) hk0 f' hf' t e
    · have next : ∀ mk', mk_M bk E mk0 mk' → (∀ k, k < bk → mk k ≠ 0 → mk' k ≠ 0) → (mk0 i ≠ 0 → ∀ t, E i f = t + 1 → mk' t ≠ 0) → wY_mark_79 post J1 J2 x1 (nI i) (nI rc) (nI mb) (nI bk) (nI sk) (nI qc) (nI mt) rl st n (nI (f + 1)) (na_A rq) (na_A bo) (na_A fc) vl (na_A ce) mk' sl := fun mk' M' mm hq => by
        have tb : ∀ k f' t, k < bk → mk0 k ≠ 0 → f' < 3 → E k f' = t + 1 → t < bk := fun k f' t hk hk0 hf' e => by
          have T := (y6 k hk (h0 k hk hk0) f' hf').2.2
          rw [e] at T
          rcases T with T | T
          · omega
          · omega
        refine ih (f + 1) mk' (by omega) (by omega) M' (fun k hk hk0 f' hf' t e => mm t (tb k f' t (by omega) hk0 hf' e) (h3 k hk hk0 f' hf' t e)) (fun f' hf' hk0 t e => ?_)
        by_cases v : f' = f
        · rw [v] at e; exact hq hk0 t e
        · exact mm t (tb i f' t hi hk0 (by omega) e) (h4 f' (by omega) hk0 t e)
      rw [na_m3]
      refine ⟨vp_in_nI (by omega) (by omega), ?_⟩
      rw [na_rd (by omega)]
      by_cases v : mk i = 0
      · have v' : mk (nI i).toNatClampNeg = 0 := by rw [nI_clamp (by omega)]; exact v
        have nx := next mk M (fun k _ q => q) (fun q => absurd v (M.1 i hi q))
        exact yp_place y1 (fun s _ _ => ⟨w, br_t v' (nm_r (nI_1 f) nx)⟩) (fun _ => ⟨w, br_t v' (nm_r (nI_1 f) nx)⟩)
      · obtain ⟨c1, c2, c3⟩ := y6 i hi (al v) f (by omega)
        have v' : ¬ mk (nI i).toNatClampNeg = 0 := by rw [nI_clamp (by omega)]; exact v
        rw [c1]
        refine yp_e (bp := bp) y1 y4 y5 c3 (fun e0 => ⟨w, br_f v' (br_t (by decide) (nm_r (nI_1 f) (next mk M (fun k _ q => q) (fun _ t e => ?_))))⟩) (fun t e ht _ => ⟨w, br_f v' (br_f (nI_pos (by omega)) ⟨vp_in_nI (by omega) (by omega), nm_r (e' := upd mk t 1) ?_ (nm_r (nI_1 f) (next _ (mk_M1 M hi v (by omega) e) (fun k _ q => ?_) (fun _ t' e' => ?_)))⟩)⟩)
        · omega
        · rw [nI_clamp (by omega), mk_b1]
        · by_cases u : k = t
          · rw [u, pk_us]; decide
          · rw [pk_un u]; exact q
        · have : t' = t := by omega
          rw [this, pk_us]; decide
theorem mk_69 {post : SY → Prop} {J1 : _} {x1 : Nat} {mk0 : Nat → Int32} (Y : yf_Y rc bk bo rq fc ce bp E Ro) (h0 : ∀ k, k < bk → mk0 k ≠ 0 → bp k ≠ 0)
    (K : ∀ mk, mk_M bk E mk0 mk → (∀ k, k < bk → mk0 k ≠ 0 → ∀ f, f < 3 → ∀ t, E k f = t + 1 → mk t ≠ 0) → J1 (nI (x1 + 1)) (na_A rq) (na_A bo) (na_A fc) vl (na_A ce) mk sl) :
    ∀ n i mk, i ≤ bk → bk - i < n → mk_M bk E mk0 mk → (∀ k, k < i → mk0 k ≠ 0 → ∀ f, f < 3 → ∀ t, E k f = t + 1 → mk t ≠ 0) → wY_mark_69 post J1 (nI x1) (nI rc) (nI mb) (nI bk) (nI sk) (nI qc) (nI mt) rl st n (nI i) (na_A rq) (na_A bo) (na_A fc) vl (na_A ce) mk sl := by
  intro n
  have y1 := Y.1
  induction n with
  | zero => intro i mk _ h; omega
  | succ n ih =>
    intro i mk h1 h2 M h3
    rw [wY_mark_69]
    refine pk_le bk i (fun z => nm_r (nI_1 x1) (K mk M (fun k hk => h3 k (by omega)))) (fun z => ⟨4, ?_⟩)
    exact mk_79 Y z h0 (fun mk' M' h3' => ih (i + 1) mk' (by omega) (by omega) M' h3') 4 0 mk (by omega) (by omega) M h3 (fun f' hf' => absurd hf' (Nat.not_lt_zero _))
def mk_I (rc bk : Nat) (E : Nat → Nat → Nat) (Ro : Nat → Nat) (mk : Nat → Int32) : Prop := (∀ k, k < bk → mk k ≠ 0 → rs_R rc E Ro k) ∧ (∀ r, r < rc → ∀ t, Ro r = t + 1 → mk t ≠ 0)
def mk_c (bk : Nat) (E : Nat → Nat → Nat) (mk : Nat → Int32) : Prop := ∀ k, k < bk → mk k ≠ 0 → ∀ f, f < 3 → ∀ t, E k f = t + 1 → mk t ≠ 0
def mk_b (mk : Nat → Int32) : Nat → Nat := fun i => if mk i = 0 then 0 else 1
theorem mk_bn {i : Nat} : mk_b mk i ≠ 0 ↔ mk i ≠ 0 := by
  show (if mk i = 0 then 0 else 1) ≠ 0 ↔ _
  by_cases z : mk i = 0
  · rw [if_pos z]; exact ⟨fun q => absurd rfl q, fun q => absurd z q⟩
  · rw [if_neg z]; exact ⟨fun _ => z, fun _ => by omega⟩
theorem mk_61 {post : SY → Prop} (Y : yf_Y rc bk bo rq fc ce bp E Ro) (K : ∀ mk, mk_I rc bk E Ro mk → mk_c bk E mk → post (nI rc, nI mb, nI bk, nI sk, nI qc, nI mt, rl, st, na_A rq, na_A bo, na_A fc, vl, na_A ce, mk, sl)) :
    ∀ n q mk, q ≤ 24 → 24 - q < n → mk_I rc bk E Ro mk → (mk_c bk E mk ∨ q + 1 ≤ li_N bk 0 (mk_b mk) (fun _ => 0)) → wY_mark_61 post (nI rc) (nI mb) (nI bk) (nI sk) (nI qc) (nI mt) rl st n (nI q) (na_A rq) (na_A bo) (na_A fc) vl (na_A ce) mk sl := by
  intro n
  have y1 := Y.1
  induction n with
  | zero => intro q mk _ h; omega
  | succ n ih =>
    intro q mk h1 h2 I C
    rw [wY_mark_61]
    have al : ∀ k, k < bk → mk k ≠ 0 → bp k ≠ 0 := fun k hk h0 => (rs_alive Y (I.1 k hk h0)).2
    have tb : ∀ k f t, k < bk → mk k ≠ 0 → f < 3 → E k f = t + 1 → t < bk := fun k f t hk h0 hf e => by
      have T := (Y.2.2.2.2.2.1 k hk (al k hk h0) f hf).2.2
      rw [e] at T
      rcases T with T | T
      · omega
      · omega
    refine pk_le 24 q (fun z => K mk I (C.elim id (fun c => ?_))) (fun z => ⟨25, mk_69 (mk0 := mk) Y al (fun mk' M' h3 => ?_) 25 0 mk (Nat.zero_le _) (by omega) ⟨fun k _ h => h, fun S s1 s2 => s2⟩ (fun k hk => absurd hk (Nat.not_lt_zero k))⟩)
    · have n2 : li_N bk 0 (mk_b mk) (fun _ => 0) ≤ bk := li_le
      omega
    · refine ih (q + 1) mk' (by omega) (by omega) ⟨M'.2 (rs_R rc E Ro) (fun s f t hs hf e => rs_link hs hf e) I.1, fun r hr t e => M'.1 t ?_ (I.2 r hr t e)⟩ ?_
      · have T := (Y.2.2.2.2.2.2 r hr).2
        rw [e] at T
        rcases T with T | T
        · omega
        · omega
      · by_cases c : mk_c bk E mk
        · refine Or.inl (fun k hk h0 f hf t e => ?_)
          have sub := M'.2 (fun k => k < bk ∧ mk k ≠ 0) (fun s f t hs hf e => ⟨tb s f t hs.1 hs.2 hf e, c s hs.1 hs.2 f hf t e⟩) (fun k hk h0 => ⟨hk, h0⟩) k hk h0
          exact M'.1 t (tb k f t hk sub.2 hf e) (c k hk sub.2 f hf t e)
        · have : ∃ t, t < bk ∧ mk t = 0 ∧ mk' t ≠ 0 := by
            apply Classical.byContradiction
            intro no
            refine c (fun k hk h0 f hf t e => fun z => no ⟨t, tb k f t hk h0 hf e, z, h3 k hk h0 f hf t e⟩)
          obtain ⟨t, t1, t2, t3⟩ := this
          have lt : li_N bk 0 (mk_b mk) (fun _ => 0) < li_N bk 0 (mk_b mk') (fun _ => 0) := li_lt (s0 := t) (fun s hs a _ => ⟨mk_bn.mpr (M'.1 s hs (mk_bn.mp a)), rfl⟩) t1 (mk_bn.mpr t3) rfl (fun a => mk_bn.mp a.1 t2)
          refine Or.inr ?_
          rcases C with C | C
          · exact absurd C c
          · omega
theorem mk_23 {post : SY → Prop} (Y : yf_Y rc bk bo rq fc ce bp E Ro) (K' : ∀ mk, mk_I rc bk E Ro mk → ∃ n, wY_mark_61 post (nI rc) (nI mb) (nI bk) (nI sk) (nI qc) (nI mt) rl st n (nI 0) (na_A rq) (na_A bo) (na_A fc) vl (na_A ce) mk sl) :
    ∀ n r mk, r ≤ rc → rc - r < n → (∀ k, k < bk → mk k ≠ 0 → rs_R rc E Ro k) → (∀ r', r' < r → ∀ t, Ro r' = t + 1 → mk t ≠ 0) → wY_mark_23 post (nI rc) (nI mb) (nI bk) (nI sk) (nI qc) (nI mt) rl st n (nI r) (na_A rq) (na_A bo) (na_A fc) vl (na_A ce) mk sl := by
  intro n
  obtain ⟨y1, y2, y3, y4, y5, y6, y7⟩ := Y
  induction n with
  | zero => intro r mk _ h; omega
  | succ n ih =>
    intro r mk h1 h2 h3 h4
    rw [wY_mark_23]
    refine pk_le rc r (fun z => K' mk ⟨h3, fun r' hr' => h4 r' (by omega)⟩) (fun z => ⟨vp_in_nI (by omega) (by omega), ?_⟩)
    obtain ⟨c1, c2⟩ := y7 r z
    rw [na_rd (by omega), c1]
    refine yp_e (bp := bp) y1 y4 y5 c2 (fun e0 => br_t (by decide) (nm_r (nI_1 r) (ih (r + 1) mk (by omega) (by omega) h3 (fun r' hr' t e => ?_)))) (fun t e ht _ => br_f (nI_pos (by omega)) ⟨vp_in_nI (by omega) (by omega), nm_r (e' := upd mk t 1) ?_ (nm_r (nI_1 r) (ih (r + 1) _ (by omega) (by omega) (fun k hk h0 => ?_) (fun r' hr' t' e' => ?_)))⟩)
    · by_cases v : r' = r
      · rw [v] at e; omega
      · exact h4 r' (by omega) t e
    · rw [nI_clamp (by omega), mk_b1]
    · by_cases u : k = t
      · rw [u]; exact rs_root z e
      · rw [pk_un u] at h0; exact h3 k hk h0
    · by_cases u : t' = t
      · rw [u, pk_us]; decide
      · rw [pk_un u]
        by_cases v : r' = r
        · rw [v] at e'; omega
        · exact h4 r' (by omega) t' e'
theorem mk_2 {post : SY → Prop} (K : ∀ mk, (∀ k, k < 24 → mk k = 0) → ∃ n, wY_mark_23 post (nI rc) (nI mb) (nI bk) (nI sk) (nI qc) (nI mt) rl st n (nI 0) (na_A rq) (na_A bo) (na_A fc) vl (na_A ce) mk sl) :
    ∀ n i mk, i ≤ 24 → 24 - i < n → (∀ k, k < i → mk k = 0) → wY_mark_2 post (nI rc) (nI mb) (nI bk) (nI sk) (nI qc) (nI mt) rl st n (nI i) (na_A rq) (na_A bo) (na_A fc) vl (na_A ce) mk sl := by
  intro n
  induction n with
  | zero => intro i mk _ h; omega
  | succ n ih =>
    intro i mk h1 h2 h3
    rw [wY_mark_2]
    refine pk_le 24 i (fun z => K mk (fun k hk => h3 k (by omega))) (fun z => ⟨vp_in_nI (by omega) (by omega), nm_r (e' := upd mk i 0) ?_ (nm_r (nI_1 i) (ih (i + 1) _ (by omega) (by omega) (fun k hk => ?_)))⟩)
    · rw [nI_clamp (by omega), mk_b0]
    · by_cases u : k = i
      · rw [u, pk_us]
      · rw [pk_un u]; exact h3 k (by omega)
theorem mk_mark {post : SY → Prop} (Y : yf_Y rc bk bo rq fc ce bp E Ro) (K : ∀ mk, (∀ k, k < bk → (mk k ≠ 0 ↔ rs_R rc E Ro k)) → post (nI rc, nI mb, nI bk, nI sk, nI qc, nI mt, rl, st, na_A rq, na_A bo, na_A fc, vl, na_A ce, mk, sl)) : wpY_mark post (nI rc, nI mb, nI bk, nI sk, nI qc, nI mt, rl, st, na_A rq, na_A bo, na_A fc, vl, na_A ce, mk, sl) := by
  have y1 := Y.1
  have y2 := Y.2.1
  have fin : ∀ mk, mk_I rc bk E Ro mk → ∃ n, wY_mark_61 post (nI rc) (nI mb) (nI bk) (nI sk) (nI qc) (nI mt) rl st n (nI 0) (na_A rq) (na_A bo) (na_A fc) vl (na_A ce) mk sl := fun mk I => by
    refine ⟨25, mk_61 Y (fun mk I C => K mk (fun k hk => ⟨I.1 k hk, fun h => ?_⟩)) 25 0 mk (by omega) (by omega) I ?_⟩
    · refine (h (fun k => k < bk ∧ mk k ≠ 0) (fun r hr t e => ⟨?_, I.2 r hr t e⟩) (fun s f t hs hf e => ⟨?_, C s hs.1 hs.2 f hf t e⟩)).2
      · exact (rs_alive Y (rs_root hr e)).1
      · exact (rs_alive Y (rs_link (I.1 s hs.1 hs.2) hf e)).1
    · by_cases c : mk_c bk E mk
      · exact Or.inl c
      · refine Or.inr ?_
        apply Classical.byContradiction
        intro no
        refine c (fun k hk h0 => ?_)
        have lt : li_N bk 0 (fun _ => 0) (fun _ => 0) < li_N bk 0 (mk_b mk) (fun _ => 0) := li_lt (s0 := k) (fun s hs a _ => absurd rfl a) hk (mk_bn.mpr h0) rfl (fun a => a.1 rfl)
        omega
  exact ⟨25, mk_2 (fun mk h => ⟨9, mk_23 Y fin 9 0 mk (Nat.zero_le _) (by omega) (fun k hk h0 => absurd (h k (by omega)) h0) (fun r hr => absurd hr (Nat.not_lt_zero r))⟩) 25 0 mk (by omega) (by omega) (fun k hk => absurd hk (Nat.not_lt_zero k))⟩
end MK
end
section
/-! Y: settle -/
section SY1
variable {rl st : Int32} {rc mb bk sk qc mt : Nat} {bo rq fc ce bp : Nat → Nat} {vl mk sl : Nat → Int32} {E : Nat → Nat → Nat} {Ro : Nat → Nat}
theorem sy_68 {post : SY → Prop} {J : _} {i : Nat} (hi : i < 24)
    (K : J (nI (se_K bp i + 1)) (nI (i + 1)) (nI sk) (na_A rq) (na_A bo) (na_A fc) vl (na_A (se_Ef bp ce i 3)) mk sl) :
    ∀ d f n, f + d = 3 → d < n → wY_settle_68 post J (nI (se_K bp i)) (nI i) (nI rc) (nI mb) (nI bk) (nI sk) (nI qc) (nI mt) rl st n (nI f) (na_A rq) (na_A bo) (na_A fc) vl (na_A (se_Ef bp ce i f)) mk sl := by
  intro d
  have kle := se_Kle (a := bp) i
  induction d with
  | zero =>
    intro f n h1 h2
    obtain ⟨n, rfl⟩ : ∃ m, n = m + 1 := ⟨n - 1, by omega⟩
    have : f = 3 := by omega
    subst this
    rw [wY_settle_68]
    exact br_t (nI_le (a := 3) (b := 3) (by omega) (by omega)) (nm_r (nI_1 _) (nm_r (nI_1 i) K))
  | succ d ih =>
    intro f n h1 h2
    obtain ⟨n, rfl⟩ : ∃ m, n = m + 1 := ⟨n - 1, by omega⟩
    rw [wY_settle_68]
    refine br_f (nI_ge (b := 3) (by omega) (by omega)) ?_
    rw [na_m3, na_m3]
    refine ⟨vp_in_nI (by omega) (by omega), vp_in_nI (by omega) (by omega), nm_r (e' := na_A (se_Ef bp ce i (f + 1))) ?_ (nm_r (nI_1 f) (ih (f + 1) n (by omega) (by omega)))⟩
    rw [na_rd (by omega), na_wr (by omega)]
    rfl
theorem sy_13 {post : SY → Prop} (hk : bk ≤ 24) (hm : ∀ i, i < bk → (mk i = 0 ↔ bp i = 0))
    (K : post (nI rc, nI mb, nI (se_K bp bk), nI (bk - se_K bp bk), nI qc, nI mt, rl + nI (bk - se_K bp bk), st + 1, na_A rq, na_A (se_C bp bo bk), na_A (se_C bp fc bk), se_C bp vl bk, na_A (se_E bp ce bk), mk, se_D bp bo sl bk)) :
    ∀ n i, i ≤ bk → bk - i < n → wY_settle_13 post (nI rc) (nI mb) (nI bk) (nI qc) (nI mt) rl st n (nI (se_K bp i)) (nI i) (nI (i - se_K bp i)) (na_A rq) (na_A (se_C bp bo i)) (na_A (se_C bp fc i)) (se_C bp vl i) (na_A (se_E bp ce i)) mk (se_D bp bo sl i) := by
  intro n
  induction n with
  | zero => intro i _ h; omega
  | succ n ih =>
    intro i h1 h2
    have kle := se_Kle (a := bp) i
    rw [wY_settle_13]
    refine pk_le bk i (fun z => ?_) (fun z => ?_)
    · have : i = bk := by omega
      subst this
      exact nm_e (nm_e K)
    · have w : vp_in (nI i) 24 := vp_in_nI (by omega) (by omega)
      have wk : vp_in (nI (se_K bp i)) 24 := vp_in_nI (by omega) (by omega)
      have em : mk (nI i).toNatClampNeg = mk i := by rw [nI_clamp (by omega)]
      have eo : na_A (se_C bp bo i) (nI i).toNatClampNeg = nI (se_C bp bo i i) := na_rd (by omega)
      refine ⟨w, ?_⟩
      by_cases y : bp i = 0
      · refine br_t (by rw [em]; exact (hm i z).mpr y) ⟨w, vp_in_nI (by omega) (by omega), nm_r (e' := se_D bp bo sl (i + 1)) ?_ (nm_r (nI_1 _) (nm_r (nI_1 i) ?_))⟩
        · rw [eo, nI_clamp (n := i - se_K bp i) (by omega), se_Cge i i (Nat.le_refl _), se_D1 y]
        · have := ih (i + 1) (by omega) (by omega)
          have e1 : i + 1 - se_K bp (i + 1) = i - se_K bp i + 1 := by rw [se_K1 y]; omega
          rw [e1, se_K1 y, se_C0 y, se_C0 y, se_C0 y, se_E1 y] at this
          exact this
      · refine br_f (fun q => y ((hm i z).mp (em ▸ q))) ⟨w, wk, nm_r (e' := na_A (se_C bp bo (i + 1))) ?_ ⟨w, wk, nm_r (e' := na_A (se_C bp fc (i + 1))) ?_ ⟨w, wk, nm_r (e' := se_C bp vl (i + 1)) ?_ ⟨4, ?_⟩⟩⟩⟩
        · rw [eo, na_wr (by omega), se_Cu y]
        · rw [na_rd (by omega), na_wr (by omega), se_Cu y]
        · rw [nI_clamp (n := i) (by omega), nI_clamp (n := se_K bp i) (by omega), se_Cv y]
        · refine sy_68 (ce := ce) (by omega) ?_ 3 0 4 (by omega) (by omega)
          have := ih (i + 1) (by omega) (by omega)
          have e1 : i + 1 - se_K bp (i + 1) = i - se_K bp i := by rw [se_K2 y]; omega
          rw [e1, se_K2 y, se_D2 y] at this
          rw [se_Ef3 y]
          exact this
theorem sy_settle {post : SY → Prop} (Y : yf_Y rc bk bo rq fc ce bp E Ro) (ha : ∀ s, s < bk → bp s ≠ 0 → rs_R rc E Ro s)
    (K : ∀ mk, post (nI rc, nI mb, nI (se_K bp bk), nI (bk - se_K bp bk), nI qc, nI mt, rl + nI (bk - se_K bp bk), st + 1, na_A rq, na_A (se_C bp bo bk), na_A (se_C bp fc bk), se_C bp vl bk, na_A (se_E bp ce bk), mk, se_D bp bo sl bk)) : wpY_settle post (nI rc, nI mb, nI bk, nI sk, nI qc, nI mt, rl, st, na_A rq, na_A bo, na_A fc, vl, na_A ce, mk, sl) := by
  have y1 := Y.1
  refine mk_mark Y (fun mk h => ⟨25, sy_13 y1 (fun i hi => ?_) (K mk) 25 0 (Nat.zero_le _) (by omega)⟩)
  have e := h i hi
  constructor
  · intro z
    apply Classical.byContradiction
    intro q
    exact e.mpr (ha i hi q) z
  · intro z
    apply Classical.byContradiction
    intro q
    exact (rs_alive Y (e.mp q)).2 z
end SY1
end
section
/-! the relation -/
section RE
def re_F (rc mb ft lt tc bk sk qc mt : Nat) (bo rq fc ce : Nat → Nat) (vl : Nat → Int32) (E : Nat → Nat → Nat) (Ro : Nat → Nat) (ra sr fo : Nat → Nat) (va : Nat → Int32) (so he : Nat → Nat) (R : Nat → List Nat) (rn rp rh : Nat → Nat) (L : Nat → List Nat) (tf cn cu th tt tk bp : Nat → Nat) : Prop :=
  (mb ≤ 24 ∧ bk ≤ mb ∧ sk ≤ 24 ∧ qc ≤ 1024 ∧ mt ≤ 1000000) ∧ mv_W 0 bk bo fc vl E Ro rc ra sr fo va so he R rn rp rh L tf cn cu th tt tk bp ∧ li_R ft lt tc L ∧ yf_Y rc bk bo rq fc ce bp E Ro ∧ (∀ s, s < bk → bo s ≤ mt) ∧ (qc < 1024 → ∃ j p, li_V rc bk ft tc E Ro bp L tf cu j p ∧ p + qc ≤ 1024)
def i_Rel (_ : Nat) (u : SX) (v : SY) : Prop := ∀ P : SX → SY → Prop, (∀ (k1 k2 k3 k4 rl st : Int32) (rc mb ft lt tc bk sk qc mt : Nat) (bo rq fc ce : Nat → Nat) (vl mk qu sl : Nat → Int32) (E : Nat → Nat → Nat) (Ro : Nat → Nat) (ra sr fo : Nat → Nat) (va : Nat → Int32) (so he : Nat → Nat) (R : Nat → List Nat) (rn rp rh : Nat → Nat) (L : Nat → List Nat) (tf cn cu th tt tk bp : Nat → Nat), re_F rc mb ft lt tc bk sk qc mt bo rq fc ce vl E Ro ra sr fo va so he R rn rp rh L tf cn cu th tt tk bp → P (k1, k2, k3, k4, nI rc, nI mb, nI ft, nI lt, nI tc, nI bk, nI sk, nI qc, nI mt, rl, st, na_A ra, na_A sr, na_A fo, va, na_A so, na_A he, na_A rn, na_A rp, na_A tf, na_A cn, na_A cu, na_A rh, na_A th, na_A tt, na_A tk, qu, na_A bo, na_A bp, sl) (nI rc, nI mb, nI bk, nI sk, nI qc, nI mt, rl, st, na_A rq, na_A bo, na_A fc, vl, na_A ce, mk, sl)) → P u v
theorem i_up {k : Nat} {u : SX} {v : SY} (h : i_Rel k u v) : i_Rel (k + 5) u v := h
variable {k1 k2 k3 k4 rl st : Int32} {rc mb ft lt tc bk sk qc mt : Nat} {ra sr fo so he rn rp tf cn cu rh th tt tk bo bp : Nat → Nat} {va qu sl : Nat → Int32} {rq fc ce : Nat → Nat} {vl mk : Nat → Int32} {E : Nat → Nat → Nat} {Ro : Nat → Nat} {L R : Nat → List Nat}
theorem re_mk {k : Nat} (F : re_F rc mb ft lt tc bk sk qc mt bo rq fc ce vl E Ro ra sr fo va so he R rn rp rh L tf cn cu th tt tk bp) : i_Rel k (k1, k2, k3, k4, nI rc, nI mb, nI ft, nI lt, nI tc, nI bk, nI sk, nI qc, nI mt, rl, st, na_A ra, na_A sr, na_A fo, va, na_A so, na_A he, na_A rn, na_A rp, na_A tf, na_A cn, na_A cu, na_A rh, na_A th, na_A tt, na_A tk, qu, na_A bo, na_A bp, sl) (nI rc, nI mb, nI bk, nI sk, nI qc, nI mt, rl, st, na_A rq, na_A bo, na_A fc, vl, na_A ce, mk, sl) := fun _ h => h k1 k2 k3 k4 rl st rc mb ft lt tc bk sk qc mt bo rq fc ce vl mk qu sl E Ro ra sr fo va so he R rn rp rh L tf cn cu th tt tk bp F
theorem re_live (W : mv_W 0 bk bo fc vl E Ro rc ra sr fo va so he R rn rp rh L tf cn cu th tt tk bp) (RR : li_R ft lt tc L) : ∃ j p, li_V rc bk ft tc E Ro bp L tf cu j p ∧ p + 0 ≤ 1024 := by
  have A := ab_of W
  have h5 : tc ≤ 5 := by
    rcases RR with q | q
    · omega
    · exact q.1.2.2.2.2.2.1
  refine ⟨tc, 545, ⟨Nat.le_refl _, fun t ht t0 hj => ?_, li_fresh A W.2.2.2.2.1 RR (Nat.le_refl _) (by omega)⟩, by omega⟩
  exfalso
  obtain ⟨a1, a2, a3, a4, a5⟩ := A.1 t ht t0
  have b5 := A.2.2.2.2.2.1 (bp t / 4)
  have hm : bp t / 4 ∈ L (tf (bp t / 4)) := (A.2.2.2.1 _ _ (by omega) b5).mpr ⟨by omega, by omega, rfl⟩
  have hne : L (tf (bp t / 4)) ≠ [] := fun q => by rw [q] at hm; exact nomatch hm
  rcases RR with ⟨-, -, -, q⟩ | ⟨-, q⟩
  · exact hne (q _ (by omega) b5)
  · have := (q _ (by omega) b5).mp hne
    omega
/-- a root takes another object -/
theorem re_root {r e : Nat} (F : re_F rc mb ft lt tc bk sk qc mt bo rq fc ce vl E Ro ra sr fo va so he R rn rp rh L tf cn cu th tt tk bp) (hr : r < rc) (T : hp_T bk bp e) : re_F rc mb ft lt tc bk sk 0 mt bo (na_u rq r (hp_pl bo e)) fc ce vl E (na_u Ro r e) (na_u ra r (hp_pl bp e)) sr fo va so he R rn rp rh L tf cn cu th tt tk bp := by
  obtain ⟨⟨n1, n2, n3, n4, n5⟩, ⟨⟨h1, h2, h3, h4, h5⟩, W⟩, RR, ⟨y1, y2, y3, y4, y5, y6, y7⟩, hm, V⟩ := F
  have W' : mv_W 0 bk bo fc vl E (na_u Ro r e) rc (na_u ra r (hp_pl bp e)) sr fo va so he R rn rp rh L tf cn cu th tt tk bp := ⟨⟨h1, h2, h3, fun r' hr' => by
    by_cases z : r' = r
    · rw [z, na_us, na_us]; exact ⟨rfl, T⟩
    · rw [na_un z, na_un z]; exact h4 r' hr', h5⟩, W⟩
  refine ⟨⟨n1, n2, n3, by omega, n5⟩, W', RR, ⟨y1, y2, y3, y4, y5, y6, fun r' hr' => ?_⟩, hm, fun _ => re_live W' RR⟩
  by_cases z : r' = r
  · rw [z, na_us, na_us]; exact ⟨rfl, T⟩
  · rw [na_un z, na_un z]; exact y7 r' hr'
def re_E (E : Nat → Nat → Nat) (s f e : Nat) : Nat → Nat → Nat := fun s' f' => if s' = s ∧ f' = f then e else E s' f'
/-- a field takes another object -/
theorem re_link {s f e : Nat} {R' : Nat → List Nat} {rn' rp' rh' : Nat → Nat} (F : re_F rc mb ft lt tc bk sk qc mt bo rq fc ce vl E Ro ra sr fo va so he R rn rp rh L tf cn cu th tt tk bp) (hs : s < bk) (h0 : bp s ≠ 0) (hf : f < fc s) (T : hp_T bk bp e) (RI' : rl_RI (na_u he (4 * bp s + f) (hp_pl bp e)) R' rn' rp' rh') :
    re_F rc mb ft lt tc bk sk 0 mt bo rq fc (na_u ce (3 * s + f) (hp_pl bo e)) vl (re_E E s f e) Ro ra sr fo va so (na_u he (4 * bp s + f) (hp_pl bp e)) R' rn' rp' rh' L tf cn cu th tt tk bp := by
  obtain ⟨⟨n1, n2, n3, n4, n5⟩, W, RR, ⟨y1, y2, y3, y4, y5, y6, y7⟩, hm, V⟩ := F
  have inj := (ab_of W).2.1
  obtain ⟨⟨h1, h2, h3, h4, h5⟩, TI, RI, hB, hk, hrc⟩ := W
  have f3 := y3 s hs
  obtain ⟨o1, o2, o3, o4, o5, o6, o7⟩ := h1 s hs h0
  have W' : mv_W 0 bk bo fc vl (re_E E s f e) Ro rc ra sr fo va so (na_u he (4 * bp s + f) (hp_pl bp e)) R' rn' rp' rh' L tf cn cu th tt tk bp := by
    refine ⟨⟨fun t ht t0 => ?_, h2, fun x hx x0 => ?_, h4, h5⟩, TI, RI', hB, hk, hrc⟩
    · obtain ⟨p1, p2, p3, p4, p5, p6, p7⟩ := h1 t ht t0
      refine ⟨p1, p2, p3, p4, p5, p6, fun f' hf' => ?_⟩
      show na_u he (4 * bp s + f) (hp_pl bp e) (4 * bp t + f') = hp_pl bp (if t = s ∧ f' = f then e else E t f') ∧ hp_T bk bp (if t = s ∧ f' = f then e else E t f')
      by_cases z : t = s ∧ f' = f
      · rw [if_pos z, z.1, z.2, na_us]; exact ⟨rfl, T⟩
      · rw [if_neg z, na_un (fun q => z ?_)]
        · exact p7 f' hf'
        · have : bp t = bp s := by omega
          exact ⟨inj t s ht hs t0 this, by omega⟩
    · by_cases z : x = 4 * bp s + f
      · have e1 : x / 4 = bp s := by omega
        rw [e1, o3]
        exact ⟨by omega, (hB s hs).1⟩
      · rw [na_un z] at x0
        exact h3 x hx x0
  refine ⟨⟨n1, n2, n3, by omega, n5⟩, W', RR, ⟨y1, y2, y3, y4, y5, fun t ht t0 f' hf' => ?_, y7⟩, hm, fun _ => re_live W' RR⟩
  show na_u ce (3 * s + f) (hp_pl bo e) (3 * t + f') = hp_pl bo (if t = s ∧ f' = f then e else E t f') ∧ (fc t ≤ f' → (if t = s ∧ f' = f then e else E t f') = 0) ∧ hp_T bk bp (if t = s ∧ f' = f then e else E t f')
  by_cases z : t = s ∧ f' = f
  · rw [if_pos z, z.1, z.2, na_us]; exact ⟨rfl, fun q => by omega, T⟩
  · rw [if_neg z, na_un (fun q => z (by omega))]
    exact y6 t ht t0 f' hf'
/-- an object takes another value -/
theorem re_val {s : Nat} {v : Int32} (F : re_F rc mb ft lt tc bk sk qc mt bo rq fc ce vl E Ro ra sr fo va so he R rn rp rh L tf cn cu th tt tk bp) (hs : s < bk) (h0 : bp s ≠ 0) : re_F rc mb ft lt tc bk sk qc mt bo rq fc ce (upd vl s v) E Ro ra sr fo (upd va (bp s) v) so he R rn rp rh L tf cn cu th tt tk bp := by
  obtain ⟨N, W, RR, Y, hm, V⟩ := F
  have inj := (ab_of W).2.1
  obtain ⟨⟨h1, h2, h3, h4, h5⟩, W⟩ := W
  refine ⟨N, ⟨⟨fun t ht t0 => ?_, h2, h3, h4, h5⟩, W⟩, RR, Y, hm, V⟩
  obtain ⟨p1, p2, p3, p4, p5, p6, p7⟩ := h1 t ht t0
  refine ⟨p1, p2, p3, p4, p5, ?_, p7⟩
  by_cases z : t = s
  · rw [z, pk_us, pk_us]
  · rw [pk_un z, pk_un (fun q => z (inj t s ht hs t0 q))]
    exact p6
/-- the beats' part of the relation -/
theorem re_yf {bp' : Nat → Nat} {L' : Nat → List Nat} (Y : yf_Y rc bk bo rq fc ce bp E Ro) (A : ab_W 0 bk E bp' L' tf cu) (hR : ∀ r, r < rc → hp_T bk bp' (Ro r)) (h : ∀ t, t < bk → bp' t ≠ 0 → bp t ≠ 0) : yf_Y rc bk bo rq fc ce bp' E Ro := by
  obtain ⟨y1, y2, y3, y4, y5, y6, y7⟩ := Y
  refine ⟨y1, y2, y3, y4, y5, fun s hs s0 f hf => ?_, fun r hr => ⟨(y7 r hr).1, hR r hr⟩⟩
  obtain ⟨c1, c2, c3⟩ := y6 s hs (h s hs s0) f hf
  exact ⟨c1, c2, (A.1 s hs s0).2.2.2.2 f hf⟩
theorem re_setl (F : re_F rc mb ft lt tc bk sk 1024 mt bo rq fc ce vl E Ro ra sr fo va so he R rn rp rh L tf cn cu th tt tk bp) : re_F rc mb ft lt tc (se_K bp bk) (bk - se_K bp bk) 1024 mt (se_C bp bo bk) rq (se_C bp fc bk) (se_E bp ce bk) (se_C bp vl bk) (se_X bp bk E) (fun r => se_re bp (Ro r)) ra sr fo va (se_O bp so bk) he R rn rp rh L tf cn cu th tt tk (se_C bp bp bk) := by
  obtain ⟨⟨n1, n2, n3, n4, n5⟩, W, RR, ⟨y1, y2, y3, y4, y5, y6, y7⟩, hm, V⟩ := F
  have kle := se_Kle (a := bp) bk
  have W' := se_W W
  refine ⟨⟨n1, by omega, by omega, n4, n5⟩, W', RR, ⟨by omega, y2, fun k hk => ?_, W'.2.2.2.1, fun k k' hk hk' e => ?_, fun k hk k0 f hf => ?_, fun r hr => ?_⟩, fun k hk => ?_, fun q => by omega⟩
  · obtain ⟨s, s1, s2, rfl⟩ := se_Ksu bk k hk
    rw [se_Cs bk s s1 s2]; exact y3 s s1
  · obtain ⟨s, s1, s2, rfl⟩ := se_Ksu bk k hk
    obtain ⟨t, t1, t2, rfl⟩ := se_Ksu bk k' hk'
    rw [se_Cs bk s s1 s2, se_Cs bk t t1 t2] at e
    rw [y5 s t s1 t1 e]
  · obtain ⟨s, s1, s2, rfl⟩ := se_Ksu bk k hk
    obtain ⟨c1, c2, c3⟩ := y6 s s1 s2 f hf
    have e : se_X bp bk E (se_K bp s) f = se_re bp (E s f) := se_Cs bk s s1 s2
    rw [e, se_Es bk s f s1 hf s2, se_Cs bk s s1 s2, se_pl c3]
    exact ⟨c1, fun q => by rw [c2 q]; rfl, se_T c3⟩
  · obtain ⟨c1, c2⟩ := y7 r hr
    rw [se_pl c2]
    exact ⟨c1, se_T c2⟩
  · obtain ⟨s, s1, s2, rfl⟩ := se_Ksu bk k hk
    rw [se_Cs bk s s1 s2]; exact hm s s1
end RE
end
section
/-! the constructors, the calls that only look at the books -/
section EZ
theorem in_n (x : Int32) {lo hi : Nat} (a b : Int32) (ha : a = nI lo) (hb : b = nI hi) (h : lo ≤ hi) (h' : hi < 2 ^ 31) : ∃ n, lo ≤ n ∧ n ≤ hi ∧ ((a ≤ x ∧ x ≤ b ∧ x = nI n) ∨ (a ≤ x ∧ ¬ x ≤ b ∧ n = hi) ∨ (¬ a ≤ x ∧ n = lo)) := by
  subst ha hb
  by_cases h1 : nI lo ≤ x
  · have h0 : ¬ x < 0 := fun q => by
      have := nI_pos (n := lo) (by omega)
      rw [Int32.lt_iff_toInt_lt] at this q
      rw [Int32.le_iff_toInt_le] at h1
      omega
    obtain ⟨j, hj, rfl⟩ := nI_of h0
    have h1' := (nI_leI (by omega) hj).mp h1
    by_cases h2 : nI j ≤ nI hi
    · exact ⟨j, h1', (nI_leI hj h').mp h2, Or.inl ⟨h1, h2, rfl⟩⟩
    · exact ⟨hi, h, Nat.le_refl _, Or.inr (Or.inl ⟨h1, h2, rfl⟩)⟩
  · exact ⟨lo, Nat.le_refl _, h, Or.inr (Or.inr ⟨h1, rfl⟩)⟩
theorem in_F {rc mb : Nat} (h1 : rc ≤ 8) (h2 : mb ≤ 24) : re_F rc mb 0 0 0 0 0 0 0 (fun _ => 0) (fun _ => 0) (fun _ => 0) (fun _ => 0) (fun _ => 0) (fun _ _ => 0) (fun _ => 0) (fun _ => 0) (fun _ => 0) (fun _ => 0) (fun _ => 0) (fun _ => 0) (fun _ => 0) (fun _ => []) (fun _ => 0) (fun _ => 0) (fun _ => 0) (fun _ => []) (fun _ => 0) (fun _ => 0) (fun _ => 0) (fun _ => 0) (fun _ => 0) (fun _ => 0) (fun _ => 0) := by
  refine ⟨⟨h2, by omega, by omega, by omega, by omega⟩, ⟨⟨fun s hs => by omega, fun p _ h => absurd rfl h, fun x _ h => absurd rfl h, fun r _ => ⟨rfl, Or.inl rfl⟩, fun x _ _ h => absurd rfl h⟩, ⟨fun t _ _ => ⟨List.nodup_nil, trivial, fun _ => ⟨rfl, rfl, rfl⟩⟩, fun t x ht _ => ⟨fun h => (nomatch h), fun h => ?_⟩, fun x => Nat.zero_le _, fun x => Nat.zero_le _⟩, ⟨fun x _ => rfl, fun x => (by decide : 0 < 112), fun c _ => ⟨rfl, trivial, List.nodup_nil⟩, fun c x _ => ⟨fun h => (nomatch h), fun h => absurd rfl h.2.1⟩⟩, fun s hs => by omega, by omega, h1⟩, Or.inl ⟨rfl, by omega, by omega, fun t _ _ => rfl⟩, ⟨by omega, h1, fun s hs => by omega, fun s hs => by omega, fun s s' hs => by omega, fun s hs => by omega, fun r _ => ⟨rfl, Or.inl rfl⟩⟩, fun s hs => by omega, fun _ => ⟨0, 0, ⟨Nat.le_refl _, fun t ht => by omega, Or.inl rfl⟩, by omega⟩⟩
  have : (0 : Nat) = t := h.2.2
  omega
theorem in_X {post : SX → Prop} {p0 p1 : Int32} {n m : Nat} (hn : (2 ≤ p0 ∧ p0 ≤ 8 ∧ p0 = nI n) ∨ (2 ≤ p0 ∧ ¬ p0 ≤ 8 ∧ n = 8) ∨ (¬ 2 ≤ p0 ∧ n = 2)) (hm : (4 ≤ p1 ∧ p1 ≤ 24 ∧ p1 = nI m) ∨ (4 ≤ p1 ∧ ¬ p1 ≤ 24 ∧ m = 24) ∨ (¬ 4 ≤ p1 ∧ m = 4))
    (K : post (4, 16, 5, 2, nI n, nI m, 0, 0, 0, 0, 0, 0, 0, 0, 0, fun _ => 0, fun _ => 0, fun _ => 0, fun _ => 0, fun _ => 0, fun _ => 0, fun _ => 0, fun _ => 0, fun _ => 0, fun _ => 0, fun _ => 0, fun _ => 0, fun _ => 0, fun _ => 0, fun _ => 0, fun _ => 0, fun _ => 0, fun _ => 0, fun _ => 0)) : wpX_init post p0 p1 := by
  rcases hn with ⟨a1, a2, a3⟩ | ⟨a1, a2, a3⟩ | ⟨a1, a3⟩ <;> rcases hm with ⟨b1, b2, b3⟩ | ⟨b1, b2, b3⟩ | ⟨b1, b3⟩ <;> subst a3 <;> subst b3
  · exact br_t a1 (br_t a2 (br_t b1 (br_t b2 K)))
  · exact br_t a1 (br_t a2 (br_t b1 (br_f b2 K)))
  · exact br_t a1 (br_t a2 (br_f b1 (br_t (by decide) K)))
  · exact br_t a1 (br_f a2 (br_t b1 (br_t b2 K)))
  · exact br_t a1 (br_f a2 (br_t b1 (br_f b2 K)))
  · exact br_t a1 (br_f a2 (br_f b1 (br_t (by decide) K)))
  · exact br_f a1 (br_t (by decide) (br_t b1 (br_t b2 K)))
  · exact br_f a1 (br_t (by decide) (br_t b1 (br_f b2 K)))
  · exact br_f a1 (br_t (by decide) (br_f b1 (br_t (by decide) K)))
theorem in_Y {post : SY → Prop} {p0 p1 : Int32} {n m : Nat} (hn : (2 ≤ p0 ∧ p0 ≤ 8 ∧ p0 = nI n) ∨ (2 ≤ p0 ∧ ¬ p0 ≤ 8 ∧ n = 8) ∨ (¬ 2 ≤ p0 ∧ n = 2)) (hm : (4 ≤ p1 ∧ p1 ≤ 24 ∧ p1 = nI m) ∨ (4 ≤ p1 ∧ ¬ p1 ≤ 24 ∧ m = 24) ∨ (¬ 4 ≤ p1 ∧ m = 4))
    (K : post (nI n, nI m, 0, 0, 0, 0, 0, 0, fun _ => 0, fun _ => 0, fun _ => 0, fun _ => 0, fun _ => 0, fun _ => 0, fun _ => 0)) : wpY_init post p0 p1 := by
  rcases hn with ⟨a1, a2, a3⟩ | ⟨a1, a2, a3⟩ | ⟨a1, a3⟩ <;> rcases hm with ⟨b1, b2, b3⟩ | ⟨b1, b2, b3⟩ | ⟨b1, b3⟩ <;> subst a3 <;> subst b3
  · exact br_t a1 (br_t a2 (br_t b1 (br_t b2 K)))
  · exact br_t a1 (br_t a2 (br_t b1 (br_f b2 K)))
  · exact br_t a1 (br_t a2 (br_f b1 (br_t (by decide) K)))
  · exact br_t a1 (br_f a2 (br_t b1 (br_t b2 K)))
  · exact br_t a1 (br_f a2 (br_t b1 (br_f b2 K)))
  · exact br_t a1 (br_f a2 (br_f b1 (br_t (by decide) K)))
  · exact br_f a1 (br_t (by decide) (br_t b1 (br_t b2 K)))
  · exact br_f a1 (br_t (by decide) (br_t b1 (br_f b2 K)))
  · exact br_f a1 (br_t (by decide) (br_f b1 (br_t (by decide) K)))
theorem i_vc0 (k0 : Int32) (k1 : Int32) : wpX_init (fun u => wpY_init (fun v => i_Rel 2 u v) k0 k1) k0 k1 := by
  obtain ⟨n, n1, n2, hn⟩ := in_n k0 (lo := 2) (hi := 8) 2 8 rfl rfl (by omega) (by omega)
  obtain ⟨m, m1, m2, hm⟩ := in_n k1 (lo := 4) (hi := 24) 4 24 rfl rfl (by omega) (by omega)
  exact in_X hn hm (in_Y hn hm (re_mk (in_F n2 m2)))
variable {k : Nat} {u : SX} {v : SY}
theorem i_vc_quiet {k : Nat} {u : SX} {v : SY} (I : i_Rel k u v) (hk : k + 5 ≤ 2562) : wpX_quiet (fun r => wpY_quiet (fun r' => r' = r ∧ i_Rel (k + 5) u v) v) u :=
  I (fun u v => wpX_quiet (fun r => wpY_quiet (fun r' => r' = r ∧ i_Rel (k + 5) u v) v) u) (by intro k1 k2 k3 k4 rl st rc mb ft lt tc bk sk qc mt bo rq fc ce vl mk qu sl E Ro ra sr fo va so he R rn rp rh L tf cn cu th tt tk bp F; exact ⟨rfl, re_mk F⟩)
theorem i_vc_settles {k : Nat} {u : SX} {v : SY} (I : i_Rel k u v) (hk : k + 5 ≤ 2562) : wpX_settles (fun r => wpY_settles (fun r' => r' = r ∧ i_Rel (k + 5) u v) v) u :=
  I (fun u v => wpX_settles (fun r => wpY_settles (fun r' => r' = r ∧ i_Rel (k + 5) u v) v) u) (by intro k1 k2 k3 k4 rl st rc mb ft lt tc bk sk qc mt bo rq fc ce vl mk qu sl E Ro ra sr fo va so he R rn rp rh L tf cn cu th tt tk bp F; exact ⟨rfl, re_mk F⟩)
theorem i_vc_booked {k : Nat} {u : SX} {v : SY} (I : i_Rel k u v) (hk : k + 5 ≤ 2562) : wpX_booked (fun r => wpY_booked (fun r' => r' = r ∧ i_Rel (k + 5) u v) v) u :=
  I (fun u v => wpX_booked (fun r => wpY_booked (fun r' => r' = r ∧ i_Rel (k + 5) u v) v) u) (by intro k1 k2 k3 k4 rl st rc mb ft lt tc bk sk qc mt bo rq fc ce vl mk qu sl E Ro ra sr fo va so he R rn rp rh L tf cn cu th tt tk bp F; exact ⟨rfl, re_mk F⟩)
theorem i_vc_made {k : Nat} {u : SX} {v : SY} (I : i_Rel k u v) (hk : k + 5 ≤ 2562) : wpX_made (fun r => wpY_made (fun r' => r' = r ∧ i_Rel (k + 5) u v) v) u :=
  I (fun u v => wpX_made (fun r => wpY_made (fun r' => r' = r ∧ i_Rel (k + 5) u v) v) u) (by intro k1 k2 k3 k4 rl st rc mb ft lt tc bk sk qc mt bo rq fc ce vl mk qu sl E Ro ra sr fo va so he R rn rp rh L tf cn cu th tt tk bp F; exact ⟨rfl, re_mk F⟩)
theorem i_vc_reclaimed {k : Nat} {u : SX} {v : SY} (I : i_Rel k u v) (hk : k + 5 ≤ 2562) : wpX_reclaimed (fun r => wpY_reclaimed (fun r' => r' = r ∧ i_Rel (k + 5) u v) v) u :=
  I (fun u v => wpX_reclaimed (fun r => wpY_reclaimed (fun r' => r' = r ∧ i_Rel (k + 5) u v) v) u) (by intro k1 k2 k3 k4 rl st rc mb ft lt tc bk sk qc mt bo rq fc ce vl mk qu sl E Ro ra sr fo va so he R rn rp rh L tf cn cu th tt tk bp F; exact ⟨rfl, re_mk F⟩)
theorem i_vc_struckCount {k : Nat} {u : SX} {v : SY} (I : i_Rel k u v) (hk : k + 5 ≤ 2562) : wpX_struckCount (fun r => wpY_struckCount (fun r' => r' = r ∧ i_Rel (k + 5) u v) v) u :=
  I (fun u v => wpX_struckCount (fun r => wpY_struckCount (fun r' => r' = r ∧ i_Rel (k + 5) u v) v) u) (by intro k1 k2 k3 k4 rl st rc mb ft lt tc bk sk qc mt bo rq fc ce vl mk qu sl E Ro ra sr fo va so he R rn rp rh L tf cn cu th tt tk bp F; exact ⟨rfl, re_mk F⟩)
theorem i_vc_roots {k : Nat} {u : SX} {v : SY} (I : i_Rel k u v) (hk : k + 5 ≤ 2562) : wpX_roots (fun r => wpY_roots (fun r' => r' = r ∧ i_Rel (k + 5) u v) v) u :=
  I (fun u v => wpX_roots (fun r => wpY_roots (fun r' => r' = r ∧ i_Rel (k + 5) u v) v) u) (by intro k1 k2 k3 k4 rl st rc mb ft lt tc bk sk qc mt bo rq fc ce vl mk qu sl E Ro ra sr fo va so he R rn rp rh L tf cn cu th tt tk bp F; exact ⟨rfl, re_mk F⟩)
theorem i_vc_capacity {k : Nat} {u : SX} {v : SY} (I : i_Rel k u v) (hk : k + 5 ≤ 2562) : wpX_capacity (fun r => wpY_capacity (fun r' => r' = r ∧ i_Rel (k + 5) u v) v) u :=
  I (fun u v => wpX_capacity (fun r => wpY_capacity (fun r' => r' = r ∧ i_Rel (k + 5) u v) v) u) (by intro k1 k2 k3 k4 rl st rc mb ft lt tc bk sk qc mt bo rq fc ce vl mk qu sl E Ro ra sr fo va so he R rn rp rh L tf cn cu th tt tk bp F; exact ⟨rfl, re_mk F⟩)
theorem i_vc_book {k : Nat} {u : SX} {v : SY} (I : i_Rel k u v) (hk : k + 5 ≤ 2562) (v1 : Int32) : wpX_book (fun r => wpY_book (fun r' => r' = r ∧ i_Rel (k + 5) u v) v v1) u v1 := by
  refine I (fun u v => wpX_book (fun r => wpY_book (fun r' => r' = r ∧ i_Rel (k + 5) u v) v v1) u v1) ?_
  intro k1 k2 k3 k4 rl st rc mb ft lt tc bk sk qc mt bo rq fc ce vl mk qu sl E Ro ra sr fo va so he R rn rp rh L tf cn cu th tt tk bp F
  have hb : bk ≤ 24 := F.2.2.2.1.1
  by_cases z : v1 < 0
  · exact br_t z (br_t z ⟨rfl, re_mk F⟩)
  · obtain ⟨j, hj, rfl⟩ := nI_of z
    by_cases w : j < bk
    · have w' := nI_lt w (by omega)
      have wv : vp_in (nI j) 24 := vp_in_nI (by omega) (by omega)
      exact br_f z (br_t w' ⟨wv, br_f z (br_t w' ⟨wv, rfl, re_mk F⟩)⟩)
    · have w' := nI_nlt (a := j) (b := bk) (by omega) hj
      exact br_f z (br_f w' (br_f z (br_f w' ⟨rfl, re_mk F⟩)))
theorem i_vc_struck {k : Nat} {u : SX} {v : SY} (I : i_Rel k u v) (hk : k + 5 ≤ 2562) (v1 : Int32) : wpX_struck (fun r => wpY_struck (fun r' => r' = r ∧ i_Rel (k + 5) u v) v v1) u v1 := by
  refine I (fun u v => wpX_struck (fun r => wpY_struck (fun r' => r' = r ∧ i_Rel (k + 5) u v) v v1) u v1) ?_
  intro k1 k2 k3 k4 rl st rc mb ft lt tc bk sk qc mt bo rq fc ce vl mk qu sl E Ro ra sr fo va so he R rn rp rh L tf cn cu th tt tk bp F
  have hb : sk ≤ 24 := F.1.2.2.1
  by_cases z : v1 < 0
  · exact br_t z (br_t z ⟨rfl, re_mk F⟩)
  · obtain ⟨j, hj, rfl⟩ := nI_of z
    by_cases w : j < sk
    · have w' := nI_lt w (by omega)
      have wv : vp_in (nI j) 24 := vp_in_nI (by omega) (by omega)
      exact br_f z (br_t w' ⟨wv, br_f z (br_t w' ⟨wv, rfl, re_mk F⟩)⟩)
    · have w' := nI_nlt (a := j) (b := sk) (by omega) hj
      exact br_f z (br_f w' (br_f z (br_f w' ⟨rfl, re_mk F⟩)))
end EZ
section EZ2
variable {zk1 zk2 zk3 zk4 zrc zmb zft zlt ztc zbk zsk zqc zmt zrl zst : Int32} {zra zsr zfo zva zso zhe zrn zrp ztf zcn zcu zrh zth ztt ztk zqu zbo zbp zsl : Nat → Int32} {rc mb bk sk qc mt : Nat} {rl st : Int32} {bo rq fc ce : Nat → Nat} {vl mk sl : Nat → Int32}
theorem ob_2 {post : Int32 → Prop} {x : Int32} (hk : bk ≤ 24) (k1 : (∃ s, s < bk ∧ nI (bo s) = x) → post 1) (k0 : (∀ s, s < bk → nI (bo s) ≠ x) → post 0) :
    ∀ n i, i ≤ bk → bk - i < n → (∀ s, s < i → nI (bo s) ≠ x) → wX_onBooks_2 post x zk1 zk2 zk3 zk4 zrc zmb zft zlt ztc (nI bk) zsk zqc zmt zrl zst zra zsr zfo zva zso zhe zrn zrp ztf zcn zcu zrh zth ztt ztk zqu (na_A bo) zbp zsl n (nI i) := by
  intro n
  induction n with
  | zero => intro i _ h; omega
  | succ n ih =>
    intro i h1 h2 h3
    rw [wX_onBooks_2]
    refine pk_le bk i (fun z => k0 (fun s hs => h3 s (by omega))) (fun z => ⟨vp_in_nI (by omega) (by omega), ?_⟩)
    rw [na_rd (by omega)]
    by_cases y : nI (bo i) = x
    · exact br_t y (k1 ⟨i, z, y⟩)
    · refine br_f y (nm_r (nI_1 i) (ih (i + 1) (by omega) (by omega) (fun s hs => ?_)))
      by_cases w : s = i
      · rw [w]; exact y
      · exact h3 s (by omega)
theorem rt_or (x : Int32) (hrc : rc ≤ 8) : (x < 0 ∨ ¬ x < nI rc) ∨ ∃ r, r < rc ∧ x = nI r := by
  rcases pk_ix x (n := rc) (by omega) with h | h | h
  · exact Or.inl (Or.inl h)
  · exact Or.inl (Or.inr (Int32.not_lt.mpr h))
  · exact Or.inr h
theorem bx1 {post : Int32 → Prop} {x : Int32} (h : x < 0 ∨ ¬ x < nI rc) (k : post 1) : wpX_badRoot post (zk1, zk2, zk3, zk4, nI rc, zmb, zft, zlt, ztc, zbk, zsk, zqc, zmt, zrl, zst, zra, zsr, zfo, zva, zso, zhe, zrn, zrp, ztf, zcn, zcu, zrh, zth, ztt, ztk, zqu, zbo, zbp, zsl) x := by
  by_cases z : x < 0
  · exact br_t z k
  · exact br_f z (br_f (h.resolve_left z) k)
theorem bx0 {post : Int32 → Prop} {r : Nat} (hr : r < rc) (hrc : rc ≤ 8) (k : post 0) : wpX_badRoot post (zk1, zk2, zk3, zk4, nI rc, zmb, zft, zlt, ztc, zbk, zsk, zqc, zmt, zrl, zst, zra, zsr, zfo, zva, zso, zhe, zrn, zrp, ztf, zcn, zcu, zrh, zth, ztt, ztk, zqu, zbo, zbp, zsl) (nI r) :=
  br_f (nI_pos (by omega)) (br_t (nI_lt hr (by omega)) k)
theorem by1 {post : Int32 → Prop} {x : Int32} (h : x < 0 ∨ ¬ x < nI rc) (k : post 1) : wpY_bad post (nI rc, nI mb, nI bk, nI sk, nI qc, nI mt, rl, st, na_A rq, na_A bo, na_A fc, vl, na_A ce, mk, sl) x := by
  by_cases z : x < 0
  · exact br_t z k
  · exact br_f z (br_f (h.resolve_left z) k)
theorem by0 {post : Int32 → Prop} {r : Nat} (hr : r < rc) (hrc : rc ≤ 8) (k : post 0) : wpY_bad post (nI rc, nI mb, nI bk, nI sk, nI qc, nI mt, rl, st, na_A rq, na_A bo, na_A fc, vl, na_A ce, mk, sl) (nI r) :=
  br_f (nI_pos (by omega)) (br_t (nI_lt hr (by omega)) k)
end EZ2
theorem i_vc_onBooks {k : Nat} {u : SX} {v : SY} (I : i_Rel k u v) (hk : k + 5 ≤ 2562) (v1 : Int32) : wpX_onBooks (fun r => wpY_onBooks (fun r' => r' = r ∧ i_Rel (k + 5) u v) v v1) u v1 := by
  refine I (fun u v => wpX_onBooks (fun r => wpY_onBooks (fun r' => r' = r ∧ i_Rel (k + 5) u v) v v1) u v1) ?_
  intro k1 k2 k3 k4 rl st rc mb ft lt tc bk sk qc mt bo rq fc ce vl mk qu sl E Ro ra sr fo va so he R rn rp rh L tf cn cu th tt tk bp F
  have hb : bk ≤ 24 := F.2.2.2.1.1
  refine ⟨25, ob_2 hb (fun h1 => ?_) (fun h0 => ?_) 25 0 (Nat.zero_le _) (by omega) (fun s hs => absurd hs (Nat.not_lt_zero s))⟩
  · unfold wpY_onBooks
    dsimp only
    exact yp_place hb (fun s hs e => br_f (nI_pos (by omega)) ⟨rfl, re_mk F⟩) (fun h0 => by
      obtain ⟨s, s1, s2⟩ := h1
      exact absurd s2 (h0 s s1))
  · unfold wpY_onBooks
    dsimp only
    exact yp_place hb (fun s hs e => absurd e (h0 s hs)) (fun _ => br_t (by decide) ⟨rfl, re_mk F⟩)
end
section
/-! copy, drop, write, load, store, swap -/
section CF
variable {k1 k2 k3 k4 rl st : Int32} {rc mb ft lt tc bk sk qc mt : Nat} {ra sr fo so he rn rp tf cn cu rh th tt tk bo bp : Nat → Nat} {va qu sl : Nat → Int32} {rq fc ce : Nat → Nat} {vl mk : Nat → Int32} {E : Nat → Nat → Nat} {Ro : Nat → Nat} {L R : Nat → List Nat}
theorem cx1 {post : Int32 → Prop} {p0 p1 p2 : Int32} (hrc : rc ≤ 8) (h : (p0 < 0 ∨ ¬ p0 < nI rc) ∨ ((∃ r, r < rc ∧ p0 = nI r) ∧ (p1 < 0 ∨ ¬ p1 < nI rc))) (k : post (-1)) : wpX_checkField post (k1, k2, k3, k4, nI rc, nI mb, nI ft, nI lt, nI tc, nI bk, nI sk, nI qc, nI mt, rl, st, na_A ra, na_A sr, na_A fo, va, na_A so, na_A he, na_A rn, na_A rp, na_A tf, na_A cn, na_A cu, na_A rh, na_A th, na_A tt, na_A tk, qu, na_A bo, na_A bp, sl) p0 p1 p2 := by
  unfold wpX_checkField
  rcases h with h | ⟨⟨r, hr, rfl⟩, h⟩
  · exact bx1 h (br_f (by decide) k)
  · exact bx0 hr hrc (br_t rfl (bx1 h (br_f (by decide) k)))
theorem cx3 {post : Int32 → Prop} {r r2 : Nat} {p2 : Int32} (W : mv_W 0 bk bo fc vl E Ro rc ra sr fo va so he R rn rp rh L tf cn cu th tt tk bp) (hr : r < rc) (hr2 : r2 < rc) (e : Ro r = 0) (k : post (-3)) : wpX_checkField post (k1, k2, k3, k4, nI rc, nI mb, nI ft, nI lt, nI tc, nI bk, nI sk, nI qc, nI mt, rl, st, na_A ra, na_A sr, na_A fo, va, na_A so, na_A he, na_A rn, na_A rp, na_A tf, na_A cn, na_A cu, na_A rh, na_A th, na_A tt, na_A tk, qu, na_A bo, na_A bp, sl) (nI r) (nI r2) p2 := by
  have hrc : rc ≤ 8 := W.2.2.2.2.2
  obtain ⟨v1, v2⟩ := W.1.2.2.2.1 r hr
  rw [e, hp_0] at v1
  unfold wpX_checkField
  exact bx0 hr hrc (br_t rfl (bx0 hr2 hrc (br_t rfl ⟨vp_in_nI (by omega) (by omega), nm_r (na_rd (by omega)) (br_t (by rw [v1]; exact nI_0) k)⟩)))
theorem cx2 {post : Int32 → Prop} {r r2 s : Nat} {p2 : Int32} (W : mv_W 0 bk bo fc vl E Ro rc ra sr fo va so he R rn rp rh L tf cn cu th tt tk bp) (h3 : fc s ≤ 3) (hr : r < rc) (hr2 : r2 < rc) (e : Ro r = s + 1) (h : p2 < 0 ∨ ¬ p2 < nI (fc s)) (k : post (-2)) : wpX_checkField post (k1, k2, k3, k4, nI rc, nI mb, nI ft, nI lt, nI tc, nI bk, nI sk, nI qc, nI mt, rl, st, na_A ra, na_A sr, na_A fo, va, na_A so, na_A he, na_A rn, na_A rp, na_A tf, na_A cn, na_A cu, na_A rh, na_A th, na_A tt, na_A tk, qu, na_A bo, na_A bp, sl) (nI r) (nI r2) p2 := by
  have hrc : rc ≤ 8 := W.2.2.2.2.2
  obtain ⟨v1, v2⟩ := W.1.2.2.2.1 r hr
  rw [e] at v1 v2
  rw [hp_1] at v1
  have v2' : s + 1 ≤ bk ∧ bp s ≠ 0 := v2.elim (fun q => absurd q (by omega)) id
  obtain ⟨o1, o2, o3, o4, o5, o6, o7⟩ := W.1.1 s (by omega) v2'.2
  unfold wpX_checkField
  refine bx0 hr hrc (br_t rfl (bx0 hr2 hrc (br_t rfl ⟨vp_in_nI (by omega) (by omega), nm_r (e' := nI (bp s)) (by rw [na_rd (by omega), v1]) (br_f (nI_ne0 (by omega) (by omega)) ?_)⟩)))
  by_cases z : p2 < 0
  · exact br_t z k
  · exact br_f z ⟨vp_in_nI o2 (by omega), br_f (by rw [na_rd (by omega), o5]; exact h.resolve_left z) k⟩
theorem cx0 {post : Int32 → Prop} {r r2 s f : Nat} (W : mv_W 0 bk bo fc vl E Ro rc ra sr fo va so he R rn rp rh L tf cn cu th tt tk bp) (h3 : fc s ≤ 3) (hr : r < rc) (hr2 : r2 < rc) (e : Ro r = s + 1) (hf : f < fc s) (k : post 0) : wpX_checkField post (k1, k2, k3, k4, nI rc, nI mb, nI ft, nI lt, nI tc, nI bk, nI sk, nI qc, nI mt, rl, st, na_A ra, na_A sr, na_A fo, va, na_A so, na_A he, na_A rn, na_A rp, na_A tf, na_A cn, na_A cu, na_A rh, na_A th, na_A tt, na_A tk, qu, na_A bo, na_A bp, sl) (nI r) (nI r2) (nI f) := by
  have hrc : rc ≤ 8 := W.2.2.2.2.2
  obtain ⟨v1, v2⟩ := W.1.2.2.2.1 r hr
  rw [e] at v1 v2
  rw [hp_1] at v1
  have v2' : s + 1 ≤ bk ∧ bp s ≠ 0 := v2.elim (fun q => absurd q (by omega)) id
  obtain ⟨o1, o2, o3, o4, o5, o6, o7⟩ := W.1.1 s (by omega) v2'.2
  unfold wpX_checkField
  exact bx0 hr hrc (br_t rfl (bx0 hr2 hrc (br_t rfl ⟨vp_in_nI (by omega) (by omega), nm_r (e' := nI (bp s)) (by rw [na_rd (by omega), v1]) (br_f (nI_ne0 (by omega) (by omega)) (br_f (nI_pos (by omega)) ⟨vp_in_nI o2 (by omega), br_t (by rw [na_rd (by omega), o5]; exact nI_lt hf (by omega)) k⟩))⟩)))
/-- what stands in a root -/
theorem cf_r {r : Nat} (F : re_F rc mb ft lt tc bk sk qc mt bo rq fc ce vl E Ro ra sr fo va so he R rn rp rh L tf cn cu th tt tk bp) (hr : r < rc) : ra r = hp_pl bp (Ro r) ∧ rq r = hp_pl bo (Ro r) ∧ hp_T bk bp (Ro r) := ⟨(F.2.1.1.2.2.2.1 r hr).1, (F.2.2.2.1.2.2.2.2.2.2 r hr).1, (F.2.1.1.2.2.2.1 r hr).2⟩
theorem cf_t {s : Nat} (T : hp_T bk bp (s + 1)) : s < bk ∧ bp s ≠ 0 := by
  rcases T with T | T
  · omega
  · exact ⟨by omega, T.2⟩
end CF
theorem i_vc_copy {k : Nat} {u : SX} {v : SY} (I : i_Rel k u v) (hk : k + 5 ≤ 2562) (v1 : Int32) (v2 : Int32) : wpX_copy (fun r u' => wpY_copy (fun r' v' => r' = r ∧ i_Rel (k + 5) u' v') v v1 v2) u v1 v2 := by
  refine I (fun u v => wpX_copy (fun r u' => wpY_copy (fun r' v' => r' = r ∧ i_Rel (k + 5) u' v') v v1 v2) u v1 v2) ?_
  intro k1 k2 k3 k4 rl st rc mb ft lt tc bk sk qc mt bo rq fc ce vl mk qu sl E Ro ra sr fo va so he R rn rp rh L tf cn cu th tt tk bp F
  have hrc : rc ≤ 8 := F.2.2.2.1.2.1
  unfold wpX_copy wpY_copy
  rcases rt_or v1 hrc with b1 | ⟨r, hr, rfl⟩
  · exact bx1 b1 (br_f (by decide) (by1 b1 (br_f (by decide) ⟨rfl, re_mk F⟩)))
  · rcases rt_or v2 hrc with b2 | ⟨s, hs, rfl⟩
    · exact bx0 hr hrc (br_t rfl (bx1 b2 (br_f (by decide) (by0 hr hrc (br_t rfl (by1 b2 (br_f (by decide) ⟨rfl, re_mk F⟩)))))))
    · obtain ⟨c1, c2, c3⟩ := cf_r F hs
      refine bx0 hr hrc (br_t rfl (bx0 hs hrc (br_t rfl ⟨vp_in_nI (by omega) (by omega), vp_in_nI (by omega) (by omega), nm_r (e' := na_A (na_u ra r (hp_pl bp (Ro s)))) (by rw [na_rd (by omega), na_wr (by omega), c1]) ?_⟩)))
      exact by0 hr hrc (br_t rfl (by0 hs hrc (br_t rfl ⟨vp_in_nI (by omega) (by omega), vp_in_nI (by omega) (by omega), nm_r (e' := na_A (na_u rq r (hp_pl bo (Ro s)))) (by rw [na_rd (by omega), na_wr (by omega), c2]) ⟨rfl, re_mk (re_root F hr c3)⟩⟩)))
theorem i_vc_drop {k : Nat} {u : SX} {v : SY} (I : i_Rel k u v) (hk : k + 5 ≤ 2562) (v1 : Int32) : wpX_drop (fun r u' => wpY_drop (fun r' v' => r' = r ∧ i_Rel (k + 5) u' v') v v1) u v1 := by
  refine I (fun u v => wpX_drop (fun r u' => wpY_drop (fun r' v' => r' = r ∧ i_Rel (k + 5) u' v') v v1) u v1) ?_
  intro k1 k2 k3 k4 rl st rc mb ft lt tc bk sk qc mt bo rq fc ce vl mk qu sl E Ro ra sr fo va so he R rn rp rh L tf cn cu th tt tk bp F
  have hrc : rc ≤ 8 := F.2.2.2.1.2.1
  unfold wpX_drop wpY_drop
  rcases rt_or v1 hrc with b1 | ⟨r, hr, rfl⟩
  · exact bx1 b1 (br_f (by decide) (by1 b1 (br_f (by decide) ⟨rfl, re_mk F⟩)))
  · refine bx0 hr hrc (br_t rfl ⟨vp_in_nI (by omega) (by omega), nm_r (na_wr (v := 0) (by omega)) ?_⟩)
    exact by0 hr hrc (br_t rfl ⟨vp_in_nI (by omega) (by omega), nm_r (na_wr (v := 0) (by omega)) ⟨rfl, re_mk (re_root F hr (Or.inl rfl))⟩⟩)
theorem i_vc_write {k : Nat} {u : SX} {v : SY} (I : i_Rel k u v) (hk : k + 5 ≤ 2562) (v1 : Int32) (v2 : Int32) : wpX_write (fun r u' => wpY_write (fun r' v' => r' = r ∧ i_Rel (k + 5) u' v') v v1 v2) u v1 v2 := by
  refine I (fun u v => wpX_write (fun r u' => wpY_write (fun r' v' => r' = r ∧ i_Rel (k + 5) u' v') v v1 v2) u v1 v2) ?_
  intro k1 k2 k3 k4 rl st rc mb ft lt tc bk sk qc mt bo rq fc ce vl mk qu sl E Ro ra sr fo va so he R rn rp rh L tf cn cu th tt tk bp F
  have Y := F.2.2.2.1
  have hrc : rc ≤ 8 := Y.2.1
  have hbk : bk ≤ 24 := Y.1
  unfold wpX_write wpY_write
  rcases rt_or v1 hrc with b1 | ⟨r, hr, rfl⟩
  · exact bx1 b1 (br_f (by decide) (by1 b1 (br_f (by decide) ⟨rfl, re_mk F⟩)))
  · obtain ⟨c1, c2, c3⟩ := cf_r F hr
    have wr : vp_in (nI r) 8 := vp_in_nI (by omega) (by omega)
    refine bx0 hr hrc (br_t rfl ⟨wr, nm_r (e' := nI (hp_pl bp (Ro r))) (by rw [na_rd (by omega), c1]) ?_⟩)
    cases e : Ro r with
    | zero =>
      refine br_t nI_0 ?_
      refine by0 hr hrc (br_t rfl ⟨wr, ?_⟩)
      rw [na_rd (by omega), c2]
      exact yp_e (bp := bp) hbk Y.2.2.2.1 Y.2.2.2.2.1 c3 (fun _ => br_f (by decide) ⟨rfl, re_mk F⟩) (fun t et => by omega)
    | succ s =>
      rw [e] at c3
      obtain ⟨s1, s2⟩ := cf_t c3
      obtain ⟨o1, o2, o3, o4, o5, o6, o7⟩ := F.2.1.1.1 s s1 s2
      rw [hp_1]
      refine br_f (nI_ne0 (by omega) (by omega)) ⟨vp_in_nI o2 (by omega), nm_r (na_ww (by omega)) ?_⟩
      refine by0 hr hrc (br_t rfl ⟨wr, ?_⟩)
      rw [na_rd (by omega), c2, e]
      refine yp_e (bp := bp) hbk Y.2.2.2.1 Y.2.2.2.2.1 c3 (fun q => by omega) (fun t et ht t0 => ?_)
      have : t = s := by omega
      subst this
      exact br_t (nI_pos' (by omega)) ⟨vp_in_nI (by omega) (by omega), nm_r (na_ww (by omega)) ⟨rfl, re_mk (re_val F s1 s2)⟩⟩
theorem i_vc_load {k : Nat} {u : SX} {v : SY} (I : i_Rel k u v) (hk : k + 5 ≤ 2562) (v1 : Int32) (v2 : Int32) (v3 : Int32) : wpX_load (fun r u' => wpY_load (fun r' v' => r' = r ∧ i_Rel (k + 5) u' v') v v1 v2 v3) u v1 v2 v3 := by
  refine I (fun u v => wpX_load (fun r u' => wpY_load (fun r' v' => r' = r ∧ i_Rel (k + 5) u' v') v v1 v2 v3) u v1 v2 v3) ?_
  intro k1 k2 k3 k4 rl st rc mb ft lt tc bk sk qc mt bo rq fc ce vl mk qu sl E Ro ra sr fo va so he R rn rp rh L tf cn cu th tt tk bp F
  have Y := F.2.2.2.1
  have W := F.2.1
  have hrc : rc ≤ 8 := Y.2.1
  have hbk : bk ≤ 24 := Y.1
  unfold wpX_load wpY_load
  rcases rt_or v1 hrc with b1 | ⟨r, hr, rfl⟩
  · have hb : (v2 < 0 ∨ ¬ v2 < nI rc) ∨ ((∃ r, r < rc ∧ v2 = nI r) ∧ (v1 < 0 ∨ ¬ v1 < nI rc)) := (rt_or v2 hrc).imp id (fun q => ⟨q, b1⟩)
    exact cx1 hrc hb (br_f (by decide) (by1 b1 (br_f (by decide) ⟨rfl, re_mk F⟩)))
  · rcases rt_or v2 hrc with b2 | ⟨q, hq, rfl⟩
    · exact cx1 hrc (Or.inl b2) (br_f (by decide) (by0 hr hrc (br_t rfl (by1 b2 (br_f (by decide) ⟨rfl, re_mk F⟩)))))
    · obtain ⟨c1, c2, c3⟩ := cf_r F hq
      have wr : vp_in (nI r) 8 := vp_in_nI (by omega) (by omega)
      have wq : vp_in (nI q) 8 := vp_in_nI (by omega) (by omega)
      cases e : Ro q with
      | zero =>
        refine cx3 W hq hr e (br_f (by decide) (by0 hr hrc (br_t rfl (by0 hq hrc (br_t rfl ⟨wq, ?_⟩)))))
        rw [na_rd (by omega), c2]
        exact yp_e (bp := bp) hbk Y.2.2.2.1 Y.2.2.2.2.1 c3 (fun _ => br_f (by decide) ⟨rfl, re_mk F⟩) (fun t et => by omega)
      | succ s =>
        rw [e] at c1 c2 c3
        rw [hp_1] at c1
        obtain ⟨s1, s2⟩ := cf_t c3
        have f3 := Y.2.2.1 s s1
        obtain ⟨o1, o2, o3, o4, o5, o6, o7⟩ := F.2.1.1.1 s s1 s2
        have ws : vp_in (nI s) 24 := vp_in_nI (by omega) (by omega)
        have efc : na_A fc (nI s).toNatClampNeg = nI (fc s) := na_rd (by omega)
        by_cases z : v3 < 0
        · refine cx2 W f3 hq hr e (Or.inl z) (br_f (by decide) (by0 hr hrc (br_t rfl (by0 hq hrc (br_t rfl ⟨wq, ?_⟩)))))
          rw [na_rd (by omega), c2]
          refine yp_e (bp := bp) hbk Y.2.2.2.1 Y.2.2.2.2.1 c3 (fun q => by omega) (fun t et ht t0 => ?_)
          have : t = s := by omega
          subst this
          exact br_t (nI_pos' (by omega)) (br_t z ⟨rfl, re_mk F⟩)
        · obtain ⟨f, hf, rfl⟩ := nI_of z
          by_cases w : f < fc s
          · refine cx0 W f3 hq hr e w (br_t rfl ⟨wq, ?_⟩)
            rw [na_rd (by omega), c1, na_m4]
            obtain ⟨l1, l2⟩ := o7 f (by omega)
            refine ⟨vp_in_nI (by omega) (by omega), wr, nm_r (e' := na_A (na_u ra r (hp_pl bp (E s f)))) (by rw [na_rd (by omega), na_wr (by omega), l1]) ?_⟩
            refine by0 hr hrc (br_t rfl (by0 hq hrc (br_t rfl ⟨wq, ?_⟩)))
            rw [na_rd (by omega), c2]
            refine yp_e (bp := bp) hbk Y.2.2.2.1 Y.2.2.2.2.1 c3 (fun q => by omega) (fun t et ht t0 => ?_)
            have : t = s := by omega
            subst this
            have w' := nI_lt w (by omega)
            refine br_t (nI_pos' (by omega)) (br_f z ⟨ws, br_t (by rw [efc]; exact w') ?_⟩)
            rw [na_m3]
            exact ⟨vp_in_nI (by omega) (by omega), wr, nm_r (e' := na_A (na_u rq r (hp_pl bo (E t f)))) (by rw [na_rd (by omega), na_wr (by omega), (Y.2.2.2.2.2.1 t s1 s2 f (by omega)).1]) ⟨rfl, re_mk (re_root F hr l2)⟩⟩
          · have w' := nI_nlt (a := f) (b := fc s) (by omega) hf
            refine cx2 W f3 hq hr e (Or.inr w') (br_f (by decide) (by0 hr hrc (br_t rfl (by0 hq hrc (br_t rfl ⟨wq, ?_⟩)))))
            rw [na_rd (by omega), c2]
            refine yp_e (bp := bp) hbk Y.2.2.2.1 Y.2.2.2.2.1 c3 (fun q => by omega) (fun t et ht t0 => ?_)
            have : t = s := by omega
            subst this
            exact br_t (nI_pos' (by omega)) (br_f z ⟨ws, br_f (by rw [efc]; exact w') ⟨rfl, re_mk F⟩⟩)
end
section
/-! store, swap -/
theorem i_vc_store {k : Nat} {u : SX} {v : SY} (I : i_Rel k u v) (hk : k + 5 ≤ 2562) (v1 : Int32) (v2 : Int32) (v3 : Int32) : wpX_store (fun r u' => wpY_store (fun r' v' => r' = r ∧ i_Rel (k + 5) u' v') v v1 v2 v3) u v1 v2 v3 := by
  refine I (fun u v => wpX_store (fun r u' => wpY_store (fun r' v' => r' = r ∧ i_Rel (k + 5) u' v') v v1 v2 v3) u v1 v2 v3) ?_
  intro k1 k2 k3 k4 rl st rc mb ft lt tc bk sk qc mt bo rq fc ce vl mk qu sl E Ro ra sr fo va so he R rn rp rh L tf cn cu th tt tk bp F
  have Y := F.2.2.2.1
  have W := F.2.1
  have hrc : rc ≤ 8 := Y.2.1
  have hbk : bk ≤ 24 := Y.1
  unfold wpX_store wpY_store
  rcases rt_or v1 hrc with b1 | ⟨r, hr, rfl⟩
  · exact cx1 hrc (Or.inl b1) (br_f (by decide) (by1 b1 (br_f (by decide) ⟨rfl, re_mk F⟩)))
  · rcases rt_or v3 hrc with b2 | ⟨q, hq, rfl⟩
    · exact cx1 hrc (Or.inr ⟨⟨r, hr, rfl⟩, b2⟩) (br_f (by decide) (by0 hr hrc (br_t rfl (by1 b2 (br_f (by decide) ⟨rfl, re_mk F⟩)))))
    · obtain ⟨c1, c2, c3⟩ := cf_r F hr
      obtain ⟨d1, d2, d3⟩ := cf_r F hq
      have wr : vp_in (nI r) 8 := vp_in_nI (by omega) (by omega)
      have wq : vp_in (nI q) 8 := vp_in_nI (by omega) (by omega)
      have rb := hp_rab W.1 q hq
      have erq : na_A rq (nI r).toNatClampNeg = nI (rq r) := na_rd (by omega)
      cases e : Ro r with
      | zero =>
        refine cx3 W hr hq e (br_f (by decide) (by0 hr hrc (br_t rfl (by0 hq hrc (br_t rfl ⟨wr, ?_⟩)))))
        rw [erq, c2]
        exact yp_e (bp := bp) hbk Y.2.2.2.1 Y.2.2.2.2.1 c3 (fun _ => br_f (by decide) ⟨rfl, re_mk F⟩) (fun t et => by omega)
      | succ s =>
        rw [e] at c1 c2 c3
        rw [hp_1] at c1
        obtain ⟨s1, s2⟩ := cf_t c3
        have f3 := Y.2.2.1 s s1
        obtain ⟨o1, o2, o3, o4, o5, o6, o7⟩ := F.2.1.1.1 s s1 s2
        have ws : vp_in (nI s) 24 := vp_in_nI (by omega) (by omega)
        have efc : na_A fc (nI s).toNatClampNeg = nI (fc s) := na_rd (by omega)
        by_cases z : v2 < 0
        · refine cx2 W f3 hr hq e (Or.inl z) (br_f (by decide) (by0 hr hrc (br_t rfl (by0 hq hrc (br_t rfl ⟨wr, ?_⟩)))))
          rw [erq, c2]
          refine yp_e (bp := bp) hbk Y.2.2.2.1 Y.2.2.2.2.1 c3 (fun q => by omega) (fun t et ht t0 => ?_)
          have : t = s := by omega
          subst this
          exact br_t (nI_pos' (by omega)) (br_t z ⟨rfl, re_mk F⟩)
        · obtain ⟨f, hf, rfl⟩ := nI_of z
          by_cases w : f < fc s
          · obtain ⟨l1, l2⟩ := o7 f (by omega)
            refine cx0 W f3 hr hq e w (br_t rfl ⟨wr, nm_r (e' := nI (4 * bp s + f)) (by rw [na_rd (by omega), c1, na_m4]) ?_⟩)
            refine ⟨wq, ?_⟩
            rw [na_rd (by omega), d1]
            rw [d1] at rb
            refine lk_set W.2.2.1 (by omega) (by omega) rb (fun rn' rp' rh' RI' => ?_)
            refine by0 hr hrc (br_t rfl (by0 hq hrc (br_t rfl ⟨wr, ?_⟩)))
            rw [erq, c2]
            refine yp_e (bp := bp) hbk Y.2.2.2.1 Y.2.2.2.2.1 c3 (fun q => by omega) (fun t et ht t0 => ?_)
            have : t = s := by omega
            subst this
            have w' := nI_lt w (by omega)
            refine br_t (nI_pos' (by omega)) (br_f z ⟨ws, br_t (by rw [efc]; exact w') ?_⟩)
            rw [na_m3]
            exact ⟨wq, vp_in_nI (by omega) (by omega), nm_r (e' := na_A (na_u ce (3 * t + f) (hp_pl bo (Ro q)))) (by rw [na_rd (by omega), na_wr (by omega), d2]) ⟨rfl, re_mk (re_link F s1 s2 w d3 RI')⟩⟩
          · have w' := nI_nlt (a := f) (b := fc s) (by omega) hf
            refine cx2 W f3 hr hq e (Or.inr w') (br_f (by decide) (by0 hr hrc (br_t rfl (by0 hq hrc (br_t rfl ⟨wr, ?_⟩)))))
            rw [erq, c2]
            refine yp_e (bp := bp) hbk Y.2.2.2.1 Y.2.2.2.2.1 c3 (fun q => by omega) (fun t et ht t0 => ?_)
            have : t = s := by omega
            subst this
            exact br_t (nI_pos' (by omega)) (br_f z ⟨ws, br_f (by rw [efc]; exact w') ⟨rfl, re_mk F⟩⟩)
theorem i_vc_swap {k : Nat} {u : SX} {v : SY} (I : i_Rel k u v) (hk : k + 5 ≤ 2562) (v1 : Int32) (v2 : Int32) (v3 : Int32) : wpX_swap (fun r u' => wpY_swap (fun r' v' => r' = r ∧ i_Rel (k + 5) u' v') v v1 v2 v3) u v1 v2 v3 := by
  refine I (fun u v => wpX_swap (fun r u' => wpY_swap (fun r' v' => r' = r ∧ i_Rel (k + 5) u' v') v v1 v2 v3) u v1 v2 v3) ?_
  intro k1 k2 k3 k4 rl st rc mb ft lt tc bk sk qc mt bo rq fc ce vl mk qu sl E Ro ra sr fo va so he R rn rp rh L tf cn cu th tt tk bp F
  have Y := F.2.2.2.1
  have W := F.2.1
  have hrc : rc ≤ 8 := Y.2.1
  have hbk : bk ≤ 24 := Y.1
  unfold wpX_swap wpY_swap
  rcases rt_or v1 hrc with b1 | ⟨r, hr, rfl⟩
  · exact cx1 hrc (Or.inl b1) (br_f (by decide) (by1 b1 (br_f (by decide) ⟨rfl, re_mk F⟩)))
  · rcases rt_or v3 hrc with b2 | ⟨q, hq, rfl⟩
    · exact cx1 hrc (Or.inr ⟨⟨r, hr, rfl⟩, b2⟩) (br_f (by decide) (by0 hr hrc (br_t rfl (by1 b2 (br_f (by decide) ⟨rfl, re_mk F⟩)))))
    · obtain ⟨c1, c2, c3⟩ := cf_r F hr
      obtain ⟨d1, d2, d3⟩ := cf_r F hq
      have wr : vp_in (nI r) 8 := vp_in_nI (by omega) (by omega)
      have wq : vp_in (nI q) 8 := vp_in_nI (by omega) (by omega)
      have rb := hp_rab W.1 q hq
      have erq : na_A rq (nI r).toNatClampNeg = nI (rq r) := na_rd (by omega)
      cases e : Ro r with
      | zero =>
        refine cx3 W hr hq e (br_f (by decide) (by0 hr hrc (br_t rfl (by0 hq hrc (br_t rfl ⟨wr, ?_⟩)))))
        rw [erq, c2]
        exact yp_e (bp := bp) hbk Y.2.2.2.1 Y.2.2.2.2.1 c3 (fun _ => br_f (by decide) ⟨rfl, re_mk F⟩) (fun t et => by omega)
      | succ s =>
        rw [e] at c1 c2 c3
        rw [hp_1] at c1
        obtain ⟨s1, s2⟩ := cf_t c3
        have f3 := Y.2.2.1 s s1
        obtain ⟨o1, o2, o3, o4, o5, o6, o7⟩ := F.2.1.1.1 s s1 s2
        have ws : vp_in (nI s) 24 := vp_in_nI (by omega) (by omega)
        have efc : na_A fc (nI s).toNatClampNeg = nI (fc s) := na_rd (by omega)
        by_cases z : v2 < 0
        · refine cx2 W f3 hr hq e (Or.inl z) (br_f (by decide) (by0 hr hrc (br_t rfl (by0 hq hrc (br_t rfl ⟨wr, ?_⟩)))))
          rw [erq, c2]
          refine yp_e (bp := bp) hbk Y.2.2.2.1 Y.2.2.2.2.1 c3 (fun q => by omega) (fun t et ht t0 => ?_)
          have : t = s := by omega
          subst this
          exact br_t (nI_pos' (by omega)) (br_t z ⟨rfl, re_mk F⟩)
        · obtain ⟨f, hf, rfl⟩ := nI_of z
          by_cases w : f < fc s
          · obtain ⟨l1, l2⟩ := o7 f (by omega)
            refine cx0 W f3 hr hq e w (br_t rfl ⟨wr, nm_r (e' := nI (4 * bp s + f)) (by rw [na_rd (by omega), c1, na_m4]) ?_⟩)
            refine ⟨vp_in_nI (by omega) (by omega), nm_r (e' := nI (hp_pl bp (E s f))) (by rw [na_rd (by omega), l1]) ⟨wq, nm_r (e' := nI (hp_pl bp (Ro q))) (by rw [na_rd (by omega), d1]) ?_⟩⟩
            rw [d1] at rb
            refine lk_set W.2.2.1 (by omega) (by omega) rb (fun rn' rp' rh' RI' => ⟨wq, nm_r (na_wr (by omega)) ?_⟩)
            refine by0 hr hrc (br_t rfl (by0 hq hrc (br_t rfl ⟨wr, ?_⟩)))
            rw [erq, c2]
            refine yp_e (bp := bp) hbk Y.2.2.2.1 Y.2.2.2.2.1 c3 (fun q => by omega) (fun t et ht t0 => ?_)
            have : t = s := by omega
            subst this
            have w' := nI_lt w (by omega)
            refine br_t (nI_pos' (by omega)) (br_f z ⟨ws, br_t (by rw [efc]; exact w') ?_⟩)
            rw [na_m3]
            exact ⟨vp_in_nI (by omega) (by omega), nm_r (e' := nI (hp_pl bo (E t f))) (by rw [na_rd (by omega), (Y.2.2.2.2.2.1 t s1 s2 f (by omega)).1]) ⟨wq, nm_r (e' := nI (hp_pl bo (Ro q))) (by rw [na_rd (by omega), d2]) ⟨vp_in_nI (by omega) (by omega), nm_r (na_wr (by omega)) ⟨wq, nm_r (na_wr (by omega)) ⟨rfl, re_mk (re_root (re_link F s1 s2 w d3 RI') hq l2)⟩⟩⟩⟩⟩
          · have w' := nI_nlt (a := f) (b := fc s) (by omega) hf
            refine cx2 W f3 hr hq e (Or.inr w') (br_f (by decide) (by0 hr hrc (br_t rfl (by0 hq hrc (br_t rfl ⟨wr, ?_⟩)))))
            rw [erq, c2]
            refine yp_e (bp := bp) hbk Y.2.2.2.1 Y.2.2.2.2.1 c3 (fun q => by omega) (fun t et ht t0 => ?_)
            have : t = s := by omega
            subst this
            exact br_t (nI_pos' (by omega)) (br_f z ⟨ws, br_f (by rw [efc]; exact w') ⟨rfl, re_mk F⟩⟩)
end
section
/-! at, valueAt, fieldsAt (wb_*: rows of kit/rows) -/
theorem wb_tb (n : Nat) : (lN n).toBitVec = BitVec.ofNat 64 n := rfl
theorem wb_inj {a b : Int64} (h : a.toBitVec = b.toBitVec) : a = b := Int64.toBitVec_inj.mp h
theorem wb_of (x : Int64) : ∃ n, n < 2 ^ 64 ∧ x = lN n := ⟨x.toBitVec.toNat, x.toBitVec.isLt, wb_inj (by rw [wb_tb]; simp)⟩
theorem wb_lt2 {a b : Nat} (h : a < b) : 2 ^ a < 2 ^ b := Nat.pow_lt_pow_right (by decide) h
theorem wb_and {a b : Nat} (ha : a < 2 ^ 64) (hb : b < 2 ^ 64) : lN a &&& lN b = lN (a &&& b) := by
  apply wb_inj
  rw [Int64.toBitVec_and, wb_tb, wb_tb, wb_tb]
  apply BitVec.eq_of_toNat_eq
  rw [BitVec.toNat_and, BitVec.toNat_ofNat, BitVec.toNat_ofNat, BitVec.toNat_ofNat, Nat.mod_eq_of_lt ha, Nat.mod_eq_of_lt hb, Nat.mod_eq_of_lt (Nat.and_lt_two_pow _ hb)]
theorem wb_mask {n k : Nat} (hn : n < 2 ^ 64) (hk : k < 64) : lN n &&& lN (2 ^ k - 1) = lN (n % 2 ^ k) := by
  rw [wb_and hn (by have := wb_lt2 hk; omega), Nat.and_two_pow_sub_one_eq_mod]
theorem at_l0 : nI 0 ≤ 0 := by decide
theorem at_g0 : 0 ≤ nI 0 := by decide
theorem at_dg (y : Int64) : ∃ d, d < 4 ∧ (y &&& 3).toInt32 = nI d := by
  obtain ⟨n, hn, rfl⟩ := wb_of y
  have e : lN n &&& 3 = lN (n % 4) := wb_mask (k := 2) hn (by decide)
  exact ⟨n % 4, by omega, by rw [e, lN_i]⟩
def at_O (bk : Nat) (bo bp : Nat → Nat) (X Y : (Int32 → Prop) → Prop) : Prop :=
  (∃ e, hp_T bk bp e ∧ (∀ post : Int32 → Prop, post (nI (hp_pl bp e)) → X post) ∧ (∀ post : Int32 → Prop, post (nI (hp_pl bo e)) → Y post)) ∨
  ∃ code : Int32, code < 0 ∧ (∀ post : Int32 → Prop, post code → X post) ∧ (∀ post : Int32 → Prop, post code → Y post)
theorem at_map {bk : Nat} {bo bp : Nat → Nat} {X Y X' Y' : (Int32 → Prop) → Prop} (h : at_O bk bo bp X Y) (hX : ∀ post, X post → X' post) (hY : ∀ post, Y post → Y' post) : at_O bk bo bp X' Y' := by
  rcases h with ⟨e, h1, h2, h3⟩ | ⟨e, h1, h2, h3⟩
  · exact Or.inl ⟨e, h1, fun post h => hX post (h2 post h), fun post h => hY post (h3 post h)⟩
  · exact Or.inr ⟨e, h1, fun post h => hX post (h2 post h), fun post h => hY post (h3 post h)⟩
section AT
variable {k1 k2 k3 k4 rl st : Int32} {rc mb ft lt tc bk sk qc mt : Nat} {ra sr fo so he rn rp tf cn cu rh th tt tk bo bp : Nat → Nat} {va qu sl : Nat → Int32} {rq fc ce : Nat → Nat} {vl mk : Nat → Int32} {E : Nat → Nat → Nat} {Ro : Nat → Nat} {L R : Nat → List Nat}
theorem at_loop {len : Nat} {path : Int64} (hl : len ≤ 24) (F : re_F rc mb ft lt tc bk sk qc mt bo rq fc ce vl E Ro ra sr fo va so he R rn rp rh L tf cn cu th tt tk bp) :
    ∀ d i e, i + d = len → hp_T bk bp e → at_O bk bo bp (fun post => wX_walk_36 post path (nI len) k1 k2 k3 k4 (nI rc) (nI mb) (nI ft) (nI lt) (nI tc) (nI bk) (nI sk) (nI qc) (nI mt) rl st (na_A ra) (na_A sr) (na_A fo) va (na_A so) (na_A he) (na_A rn) (na_A rp) (na_A tf) (na_A cn) (na_A cu) (na_A rh) (na_A th) (na_A tt) (na_A tk) qu (na_A bo) (na_A bp) sl (d + 1) (nI (hp_pl bp e)) (nI i)) (fun post => wY_at_36 post path (nI len) (nI rc) (nI mb) (nI bk) (nI sk) (nI qc) (nI mt) rl st (na_A rq) (na_A bo) (na_A fc) vl (na_A ce) mk sl (d + 1) (nI (hp_pl bo e)) (nI i)) := by
  intro d
  have W := F.2.1
  have Y := F.2.2.2.1
  have hbk : bk ≤ 24 := Y.1
  induction d with
  | zero =>
    intro i e h T
    have : i = len := by omega
    subst this
    have le := nI_le (a := i) (b := i) (Nat.le_refl _) (by omega)
    exact Or.inl ⟨e, T, fun post h => by dsimp only; rw [wX_walk_36]; exact br_t le h, fun post h => by dsimp only; rw [wY_at_36]; exact br_t le h⟩
  | succ d ih =>
    intro i e h T
    have ge : ¬ nI len ≤ nI i := nI_ge (by omega) (by omega)
    cases e with
    | zero =>
      refine Or.inr ⟨-3, by decide, fun post h => ?_, fun post h => ?_⟩
      · dsimp only
        rw [wX_walk_36]
        exact br_f ge (br_t nI_0 h)
      · dsimp only
        rw [wY_at_36]
        exact br_f ge (yp_e (bp := bp) hbk Y.2.2.2.1 Y.2.2.2.2.1 T (fun _ => br_f (by decide) h) (fun t et => by omega))
    | succ s =>
      obtain ⟨s1, s2⟩ := cf_t T
      have f3 := Y.2.2.1 s s1
      obtain ⟨o1, o2, o3, o4, o5, o6, o7⟩ := W.1.1 s s1 s2
      obtain ⟨dd, hd, ed⟩ := at_dg (path.toUInt64 >>> ((2 * nI i).toInt64.toUInt64 &&& Int64.toUInt64 63)).toInt64
      have ws : vp_in (nI s) 24 := vp_in_nI (by omega) (by omega)
      have efc : na_A fc (nI s).toNatClampNeg = nI (fc s) := na_rd (by omega)
      have efo : na_A fo (nI (bp s)).toNatClampNeg = nI (fc s) := by rw [na_rd (by omega), o5]
      have wp : vp_in (nI (bp s)) 112 := vp_in_nI o2 (by omega)
      have n0 : ¬ nI (bp s) = 0 := nI_ne0 (by omega) (by omega)
      have yy : ∀ P : Int32 → Prop, P (nI s) → wpY_place P (nI rc, nI mb, nI bk, nI sk, nI qc, nI mt, rl, st, na_A rq, na_A bo, na_A fc, vl, na_A ce, mk, sl) (nI (hp_pl bo (s + 1))) := fun P hP =>
        yp_e (bp := bp) hbk Y.2.2.2.1 Y.2.2.2.2.1 T (fun q => by omega) (fun t et _ _ => by
          have : t = s := by omega
          rw [this]; exact hP)
      by_cases w : dd < fc s
      · obtain ⟨l1, l2⟩ := o7 dd (by omega)
        obtain ⟨c1, c2, c3⟩ := Y.2.2.2.2.2.1 s s1 s2 dd (by omega)
        have w' := nI_lt w (by omega)
        refine at_map (ih (i + 1) (E s dd) (by omega) l2) (fun post h => ?_) (fun post h => ?_)
        · rw [wX_walk_36]
          refine br_f ge (br_f n0 (nm_r ed ⟨wp, br_t (by rw [hp_1, efo]; exact w') ?_⟩))
          rw [hp_1, na_m4]
          exact ⟨vp_in_nI (by omega) (by omega), nm_r (e' := nI (hp_pl bp (E s dd))) (by rw [na_rd (by omega), l1]) (nm_r (nI_1 i) h)⟩
        · rw [wY_at_36]
          refine br_f ge (yy _ (br_t (nI_pos' (by omega)) (nm_r ed ⟨ws, br_t (by rw [efc]; exact w') ?_⟩)))
          rw [na_m3]
          exact ⟨vp_in_nI (by omega) (by omega), nm_r (e' := nI (hp_pl bo (E s dd))) (by rw [na_rd (by omega), c1]) (nm_r (nI_1 i) h)⟩
      · have w' := nI_nlt (a := dd) (b := fc s) (by omega) (by omega)
        refine Or.inr ⟨-2, by decide, fun post h => ?_, fun post h => ?_⟩
        · dsimp only
          rw [wX_walk_36]
          exact br_f ge (br_f n0 (nm_r ed ⟨wp, br_f (by rw [hp_1, efo]; exact w') h⟩))
        · dsimp only
          rw [wY_at_36]
          exact br_f ge (yy _ (br_t (nI_pos' (by omega)) (nm_r ed ⟨ws, br_f (by rw [efc]; exact w') h⟩)))
theorem at_all (F : re_F rc mb ft lt tc bk sk qc mt bo rq fc ce vl E Ro ra sr fo va so he R rn rp rh L tf cn cu th tt tk bp) (p0 : Int32) (p1 : Int64) (p2 : Int32) : at_O bk bo bp (fun post => wpX_walk post (k1, k2, k3, k4, nI rc, nI mb, nI ft, nI lt, nI tc, nI bk, nI sk, nI qc, nI mt, rl, st, na_A ra, na_A sr, na_A fo, va, na_A so, na_A he, na_A rn, na_A rp, na_A tf, na_A cn, na_A cu, na_A rh, na_A th, na_A tt, na_A tk, qu, na_A bo, na_A bp, sl) p0 p1 p2) (fun post => wpY_at post (nI rc, nI mb, nI bk, nI sk, nI qc, nI mt, rl, st, na_A rq, na_A bo, na_A fc, vl, na_A ce, mk, sl) p0 p1 p2) := by
  have hrc : rc ≤ 8 := F.2.2.2.1.2.1
  unfold wpX_walk wpY_at
  rcases rt_or p0 hrc with b1 | ⟨r, hr, rfl⟩
  · exact Or.inr ⟨-1, by decide, fun post h => bx1 b1 (br_f (by decide) h), fun post h => by1 b1 (br_f (by decide) h)⟩
  · by_cases z : p2 < 0
    · exact Or.inr ⟨-5, by decide, fun post h => bx0 hr hrc (br_t rfl (br_t z h)), fun post h => by0 hr hrc (br_t rfl (br_t z h))⟩
    · obtain ⟨len, hl, rfl⟩ := nI_of z
      by_cases w : len ≤ 24
      · have w' : nI len ≤ 24 := nI_le (b := 24) w (by omega)
        obtain ⟨c1, c2, c3⟩ := cf_r F hr
        have wr : vp_in (nI r) 8 := vp_in_nI (by omega) (by omega)
        refine at_map (at_loop (k1 := k1) (k2 := k2) (k3 := k3) (k4 := k4) (rl := rl) (st := st) (qu := qu) (sl := sl) (mk := mk) (path := p1) w F len 0 (Ro r) (by omega) c3) (fun post h => ?_) (fun post h => ?_)
        · exact bx0 hr hrc (br_t rfl (br_f z (br_t w' ⟨wr, nm_r (e' := nI (hp_pl bp (Ro r))) (by rw [na_rd (by omega), c1]) ⟨len + 1, h⟩⟩)))
        · exact by0 hr hrc (br_t rfl (br_f z (br_t w' ⟨wr, nm_r (e' := nI (hp_pl bo (Ro r))) (by rw [na_rd (by omega), c2]) ⟨len + 1, h⟩⟩)))
      · have w' : ¬ nI len ≤ 24 := nI_ge (a := 24) (by omega) hl
        exact Or.inr ⟨-5, by decide, fun post h => bx0 hr hrc (br_t rfl (br_f z (br_f w' h))), fun post h => by0 hr hrc (br_t rfl (br_f z (br_f w' h)))⟩
end AT
theorem i_vc_at {k : Nat} {u : SX} {v : SY} (I : i_Rel k u v) (hk : k + 5 ≤ 2562) (v1 : Int32) (a1 : Int64) (v4 : Int32) : wpX_at (fun r => wpY_at (fun r' => r' = r ∧ i_Rel (k + 5) u v) v v1 a1 v4) u v1 a1 v4 := by
  refine I (fun u v => wpX_at (fun r => wpY_at (fun r' => r' = r ∧ i_Rel (k + 5) u v) v v1 a1 v4) u v1 a1 v4) ?_
  intro k1 k2 k3 k4 rl st rc mb ft lt tc bk sk qc mt bo rq fc ce vl mk qu sl E Ro ra sr fo va so he R rn rp rh L tf cn cu th tt tk bp F
  unfold wpX_at
  rcases at_all (k1 := k1) (k2 := k2) (k3 := k3) (k4 := k4) (rl := rl) (st := st) (qu := qu) (sl := sl) (mk := mk) F v1 a1 v4 with ⟨e, T, hX, hY⟩ | ⟨code, hc, hX, hY⟩
  · refine hX _ ?_
    cases e with
    | zero => exact br_t at_l0 (hY _ ⟨rfl, re_mk F⟩)
    | succ t =>
      obtain ⟨s1, s2⟩ := cf_t T
      obtain ⟨o1, o2, o3, o4, o5, o6, o7⟩ := F.2.1.1.1 t s1 s2
      exact br_f (nI_nle (n := bp t) (by omega) (by omega)) ⟨vp_in_nI (n := bp t) o2 (by omega), hY _ ⟨by rw [hp_1, hp_1, na_rd (by omega), o3], re_mk F⟩⟩
  · exact hX _ (br_t (Int32.le_of_lt hc) (hY _ ⟨rfl, re_mk F⟩))
theorem i_vc_valueAt {k : Nat} {u : SX} {v : SY} (I : i_Rel k u v) (hk : k + 5 ≤ 2562) (v1 : Int32) (a1 : Int64) (v4 : Int32) : wpX_valueAt (fun r => wpY_valueAt (fun r' => r' = r ∧ i_Rel (k + 5) u v) v v1 a1 v4) u v1 a1 v4 := by
  refine I (fun u v => wpX_valueAt (fun r => wpY_valueAt (fun r' => r' = r ∧ i_Rel (k + 5) u v) v v1 a1 v4) u v1 a1 v4) ?_
  intro k1 k2 k3 k4 rl st rc mb ft lt tc bk sk qc mt bo rq fc ce vl mk qu sl E Ro ra sr fo va so he R rn rp rh L tf cn cu th tt tk bp F
  have Y := F.2.2.2.1
  have hbk : bk ≤ 24 := Y.1
  unfold wpX_valueAt wpY_valueAt
  rcases at_all (k1 := k1) (k2 := k2) (k3 := k3) (k4 := k4) (rl := rl) (st := st) (qu := qu) (sl := sl) (mk := mk) F v1 a1 v4 with ⟨e, T, hX, hY⟩ | ⟨code, hc, hX, hY⟩
  · refine hX _ ?_
    cases e with
    | zero => exact br_t at_l0 (hY _ (yp_e (bp := bp) hbk Y.2.2.2.1 Y.2.2.2.2.1 T (fun _ => br_f (by decide) ⟨rfl, re_mk F⟩) (fun t et => by omega)))
    | succ t =>
      obtain ⟨s1, s2⟩ := cf_t T
      obtain ⟨o1, o2, o3, o4, o5, o6, o7⟩ := F.2.1.1.1 t s1 s2
      refine br_f (nI_nle (n := bp t) (by omega) (by omega)) ⟨vp_in_nI (n := bp t) o2 (by omega), hY _ (yp_e (bp := bp) hbk Y.2.2.2.1 Y.2.2.2.2.1 T (fun q => by omega) (fun t' et ht t0 => ?_))⟩
      have : t' = t := by omega
      subst this
      refine br_t (nI_pos' (by omega)) ⟨vp_in_nI (by omega) (by omega), ?_, re_mk F⟩
      rw [hp_1, nI_clamp (n := t') (by omega), nI_clamp (n := bp t') (by omega), o6]
  · refine hX _ (br_t (Int32.le_of_lt hc) (hY _ (yp_place hbk (fun s hs e => ?_) (fun _ => br_f (by decide) ⟨rfl, re_mk F⟩))))
    rw [← e] at hc
    exact absurd hc (nI_pos (Y.2.2.2.1 s hs).2)
theorem i_vc_fieldsAt {k : Nat} {u : SX} {v : SY} (I : i_Rel k u v) (hk : k + 5 ≤ 2562) (v1 : Int32) (a1 : Int64) (v4 : Int32) : wpX_fieldsAt (fun r => wpY_fieldsAt (fun r' => r' = r ∧ i_Rel (k + 5) u v) v v1 a1 v4) u v1 a1 v4 := by
  refine I (fun u v => wpX_fieldsAt (fun r => wpY_fieldsAt (fun r' => r' = r ∧ i_Rel (k + 5) u v) v v1 a1 v4) u v1 a1 v4) ?_
  intro k1 k2 k3 k4 rl st rc mb ft lt tc bk sk qc mt bo rq fc ce vl mk qu sl E Ro ra sr fo va so he R rn rp rh L tf cn cu th tt tk bp F
  have Y := F.2.2.2.1
  have hbk : bk ≤ 24 := Y.1
  unfold wpX_fieldsAt wpY_fieldsAt
  rcases at_all (k1 := k1) (k2 := k2) (k3 := k3) (k4 := k4) (rl := rl) (st := st) (qu := qu) (sl := sl) (mk := mk) F v1 a1 v4 with ⟨e, T, hX, hY⟩ | ⟨code, hc, hX, hY⟩
  · refine hX _ ?_
    cases e with
    | zero => exact br_t at_l0 (br_t nI_0 (hY _ (br_t at_g0 (yp_e (bp := bp) hbk Y.2.2.2.1 Y.2.2.2.2.1 T (fun _ => br_f (by decide) ⟨rfl, re_mk F⟩) (fun t et => by omega)))))
    | succ t =>
      obtain ⟨s1, s2⟩ := cf_t T
      obtain ⟨o1, o2, o3, o4, o5, o6, o7⟩ := F.2.1.1.1 t s1 s2
      have bb := (Y.2.2.2.1 t s1).2
      refine br_f (nI_nle (n := bp t) (by omega) (by omega)) ⟨vp_in_nI (n := bp t) o2 (by omega), hY _ (br_t (nI_pos' (n := bo t) bb) (yp_e (bp := bp) hbk Y.2.2.2.1 Y.2.2.2.2.1 T (fun q => by omega) (fun t' et ht t0 => ?_)))⟩
      have : t' = t := by omega
      subst this
      refine br_t (nI_pos' (by omega)) ⟨vp_in_nI (by omega) (by omega), ?_, re_mk F⟩
      rw [hp_1, na_rd (by omega), na_rd (by omega), o5]
  · have n0 : ¬ code = 0 := fun q => by rw [q] at hc; exact absurd hc (by decide)
    exact hX _ (br_t (Int32.le_of_lt hc) (br_f n0 (hY _ (br_f (Int32.not_le.mpr hc) ⟨rfl, re_mk F⟩))))
end
section
/-! make -/
section MA
variable {k1 k2 k3 k4 rl st : Int32} {rc mb ft lt tc bk sk qc mt : Nat} {ra sr fo so he rn rp tf cn cu rh th tt tk bo bp : Nat → Nat} {va qu sl : Nat → Int32} {rq fc ce : Nat → Nat} {vl mk : Nat → Int32} {E : Nat → Nat → Nat} {Ro : Nat → Nat} {L R L' : Nat → List Nat} {tf' cn' cu' th' tt' tk' ce' : Nat → Nat} {g x i ft' lt' tc' fl r : Nat} {val : Int32}
def ma_E (E : Nat → Nat → Nat) (bk : Nat) : Nat → Nat → Nat := fun s f => if s = bk then 0 else E s f
theorem ma_pl {h : Nat → Nat} {e v : Nat} (T : hp_T bk bp e) : hp_pl (na_u h bk v) e = hp_pl h e := by
  cases e with
  | zero => rfl
  | succ t =>
    rcases T with T | T
    · omega
    · rw [hp_1, hp_1, na_un (by omega)]
theorem ma_T {e v : Nat} (T : hp_T bk bp e) : hp_T (bk + 1) (na_u bp bk v) e := by
  rcases T with T | T
  · exact Or.inl T
  · by_cases z : e = 0
    · exact Or.inl z
    · refine Or.inr ⟨by omega, ?_⟩
      rw [na_un (by omega)]
      exact T.2
theorem re_new (F : re_F rc mb ft lt tc bk sk qc mt bo rq fc ce vl E Ro ra sr fo va so he R rn rp rh L tf cn cu th tt tk bp) (hmt : mt < 1000000) (hbm : bk < mb) (hfl : fl ≤ 3) (hg : 1 ≤ g) (hg' : g ≤ 5) (TP : tr_TP L tf cu g 0 L' tf' cu' x i) (TI' : tr_TI 0 L' tf' cn' cu' th' tt' tk') (RR' : li_R ft' lt' tc' L')
    (ce1 : ∀ s f, s < bk → f < 3 → ce' (3 * s + f) = ce (3 * s + f)) (ce2 : ∀ f, f < 3 → ce' (3 * bk + f) = 0) :
    re_F rc mb ft' lt' tc' (bk + 1) sk 0 (mt + 1) (na_u bo bk (mt + 1)) rq (na_u fc bk fl) ce' (upd vl bk val) (ma_E E bk) Ro ra (na_u sr (4 * x + i) (mt + 1)) (na_u fo (4 * x + i) fl) (upd va (4 * x + i) val) (na_u so (4 * x + i) bk) he R rn rp rh L' tf' cn' cu' th' tt' tk' (na_u bp bk (4 * x + i)) := by
  obtain ⟨⟨n1, n2, n3, n4, n5⟩, ⟨⟨h1, h2, h3, h4, h5⟩, TI, RI, hB, hk, hrc⟩, RR, ⟨y1, y2, y3, y4, y5, y6, y7⟩, hm, V⟩ := F
  have ha4 := TI.2.2.2
  have TX := tp_x hg hg' TI.2.1 TP
  have TF := tp_tf TP
  obtain ⟨t1, t2, t3, t4, t5⟩ := TP
  have e1 : (4 * x + i) / 4 = x := by omega
  have e2 : (4 * x + i) % 4 = i := by omega
  have sq : sr (4 * x + i) = 0 := by
    apply Classical.byContradiction
    intro q
    obtain ⟨q1, q2, q3, q4, q5⟩ := h2 (4 * x + i) (by omega) q
    rw [e1] at q3 q4
    rw [e2] at q4
    rcases t5 with t5 | t5
    · omega
    · exact q3 t5.1
  have hz : ∀ f, f < 3 → he (4 * (4 * x + i) + f) = 0 := fun f hf => by
    apply Classical.byContradiction
    intro q
    have := (h3 _ (by omega) q).2
    have e3 : (4 * (4 * x + i) + f) / 4 = 4 * x + i := by omega
    rw [e3] at this
    exact this sq
  have nb : ∀ s, s < bk → bp s ≠ 0 → bp s ≠ 4 * x + i := fun s hs s0 q => by
    have := (h1 s hs s0).2.2.1
    rw [q, sq] at this
    exact (hB s hs).1 this.symm
  have cx : i < cu' x := by
    rcases t5 with ⟨-, u2, u3, u4, u5, u6⟩ | ⟨u1, u2, u3, u4, u5, u6⟩
    · rw [u6, na_us]; omega
    · rw [u6, na_us]; omega
  have HB : ∀ s, s < bk + 1 → na_u bo bk (mt + 1) s ≠ 0 ∧ na_u bo bk (mt + 1) s < 2 ^ 31 := fun s hs => by
    by_cases z : s = bk
    · rw [z, na_us]; omega
    · rw [na_un z]; exact hB s (by omega)
  have W' : mv_W 0 (bk + 1) (na_u bo bk (mt + 1)) (na_u fc bk fl) (upd vl bk val) (ma_E E bk) Ro rc ra (na_u sr (4 * x + i) (mt + 1)) (na_u fo (4 * x + i) fl) (upd va (4 * x + i) val) (na_u so (4 * x + i) bk) he R rn rp rh L' tf' cn' cu' th' tt' tk' (na_u bp bk (4 * x + i)) := by
    refine ⟨⟨fun s hs s0 => ?_, fun q hq q0 => ?_, fun y hy y0 => ?_, fun r hr => ?_, fun y z1 z2 z3 z4 => ?_⟩, TI', RI, HB, by omega, hrc⟩
    · by_cases z : s = bk
      · subst z
        rw [na_us, na_us, na_us, na_us, na_us, na_us, pk_us, pk_us]
        refine ⟨by omega, by omega, rfl, rfl, rfl, rfl, fun f hf => ?_⟩
        have eE : ma_E E s s f = 0 := if_pos rfl
        rw [eE]
        exact ⟨hz f hf, Or.inl rfl⟩
      · have hs' : s < bk := by omega
        rw [na_un z] at s0
        have n0 := nb s hs' s0
        obtain ⟨o1, o2, o3, o4, o5, o6, o7⟩ := h1 s hs' s0
        rw [na_un z, na_un z, na_un z, na_un n0, na_un n0, na_un n0, pk_un z, pk_un n0]
        refine ⟨o1, o2, o3, o4, o5, o6, fun f hf => ?_⟩
        have eE : ma_E E bk s f = E s f := if_neg z
        obtain ⟨v1, v2⟩ := o7 f hf
        rw [eE, ma_pl v2]
        exact ⟨v1, ma_T v2⟩
    · by_cases z : q = 4 * x + i
      · rw [z, na_us, na_us, e1, e2, TX]
        exact ⟨by omega, rfl, by omega, cx, by omega⟩
      · rw [na_un z] at q0 ⊢
        obtain ⟨q1, q2, q3, q4, q5⟩ := h2 q hq q0
        rw [na_un (by omega), TF _ q3]
        refine ⟨by omega, q2, q3, ?_, q5⟩
        rcases t5 with ⟨-, u2, u3, u4, u5, u6⟩ | ⟨u1, u2, u3, u4, u5, u6⟩
        · rw [u6]
          by_cases w : q / 4 = x
          · rw [w, na_us]; rw [w] at q4; omega
          · rw [na_un w]; exact q4
        · have w : q / 4 ≠ x := fun w => q3 (w ▸ u1)
          rw [u6, na_un w]; exact q4
    · obtain ⟨m1, m2⟩ := h3 y hy y0
      have w : y / 4 ≠ 4 * x + i := fun q => m2 (q ▸ sq)
      rw [na_un w]
      exact ⟨m1, m2⟩
    · obtain ⟨v1, v2⟩ := h4 r hr
      rw [ma_pl v2]
      exact ⟨v1, ma_T v2⟩
    · have sp : ∀ j, sr (4 * y + j) ≠ 0 → na_u sr (4 * x + i) (mt + 1) (4 * y + j) ≠ 0 := fun j q => by
        by_cases w : 4 * y + j = 4 * x + i
        · rw [w, na_us]; omega
        · rw [na_un w]; exact q
      rcases t5 with ⟨-, u2, u3, u4, u5, u6⟩ | ⟨u1, u2, u3, u4, u5, u6⟩
      · rw [u2] at z3
        obtain ⟨k1, k2⟩ := h5 y z1 z2 z3 z4
        rw [u6]
        by_cases w : y = x
        · subst w
          rw [na_us]
          refine ⟨by omega, fun j hj => ?_⟩
          by_cases v : j = i
          · rw [v, na_us]; omega
          · exact sp j (k2 j (by omega))
        · rw [na_un w]
          exact ⟨k1, fun j hj => sp j (k2 j hj)⟩
      · rw [u5] at z3
        rw [u6]
        by_cases w : y = x
        · subst w
          rw [na_us]
          refine ⟨by omega, fun j hj => ?_⟩
          have : j = i := by omega
          rw [this, na_us]; omega
        · rw [na_un w] at z3 ⊢
          obtain ⟨k1, k2⟩ := h5 y z1 z2 z3 z4
          exact ⟨k1, fun j hj => sp j (k2 j hj)⟩
  refine ⟨⟨n1, by omega, n3, by omega, by omega⟩, W', RR', ⟨by omega, y2, fun s hs => ?_, HB, fun s s' hs hs' e => ?_, fun s hs s0 f hf => ?_, fun r hr => ?_⟩, fun s hs => ?_, fun _ => re_live W' RR'⟩
  · by_cases z : s = bk
    · rw [z, na_us]; exact hfl
    · rw [na_un z]; exact y3 s (by omega)
  · by_cases z : s = bk
    · by_cases z' : s' = bk
      · omega
      · rw [z, na_us, na_un z'] at e
        have := hm s' (by omega)
        omega
    · by_cases z' : s' = bk
      · rw [z', na_us, na_un z] at e
        have := hm s (by omega)
        omega
      · rw [na_un z, na_un z'] at e
        exact y5 s s' (by omega) (by omega) e
  · by_cases z : s = bk
    · subst z
      have eE : ma_E E s s f = 0 := if_pos rfl
      rw [eE]
      exact ⟨ce2 f hf, fun _ => rfl, Or.inl rfl⟩
    · have eE : ma_E E bk s f = E s f := if_neg z
      rw [na_un z] at s0
      obtain ⟨c1, c2, c3⟩ := y6 s (by omega) s0 f hf
      rw [eE, ce1 s f (by omega) hf, na_un z, ma_pl c3]
      exact ⟨c1, c2, ma_T c3⟩
  · obtain ⟨c1, c2⟩ := y7 r hr
    rw [ma_pl c2]
    exact ⟨c1, ma_T c2⟩
  · by_cases z : s = bk
    · rw [z, na_us]; omega
    · rw [na_un z]
      have := hm s (by omega)
      omega
theorem re_make (F : re_F rc mb ft lt tc bk sk qc mt bo rq fc ce vl E Ro ra sr fo va so he R rn rp rh L tf cn cu th tt tk bp) (hmt : mt < 1000000) (hbm : bk < mb) (hfl : fl ≤ 3) (hg : 1 ≤ g) (hg' : g ≤ 5) (TP : tr_TP L tf cu g 0 L' tf' cu' x i) (TI' : tr_TI 0 L' tf' cn' cu' th' tt' tk') (RR' : li_R ft' lt' tc' L')
    (ce1 : ∀ s f, s < bk → f < 3 → ce' (3 * s + f) = ce (3 * s + f)) (ce2 : ∀ f, f < 3 → ce' (3 * bk + f) = 0) (hr : r < rc) :
    re_F rc mb ft' lt' tc' (bk + 1) sk 0 (mt + 1) (na_u bo bk (mt + 1)) (na_u rq r (mt + 1)) (na_u fc bk fl) ce' (upd vl bk val) (ma_E E bk) (na_u Ro r (bk + 1)) (na_u ra r (4 * x + i)) (na_u sr (4 * x + i) (mt + 1)) (na_u fo (4 * x + i) fl) (upd va (4 * x + i) val) (na_u so (4 * x + i) bk) he R rn rp rh L' tf' cn' cu' th' tt' tk' (na_u bp bk (4 * x + i)) := by
  have F' := re_new (val := val) F hmt hbm hfl hg hg' TP TI' RR' ce1 ce2
  have x1 := TP.1
  have T : hp_T (bk + 1) (na_u bp bk (4 * x + i)) (bk + 1) := Or.inr ⟨Nat.le_refl _, by show na_u bp bk (4 * x + i) bk ≠ 0; rw [na_us]; omega⟩
  have G := re_root F' hr T
  rw [hp_1, hp_1, na_us, na_us] at G
  exact G
/-! the ring -/
theorem tp_ne (TP : tr_TP L tf cu g 0 L' tf' cu' x i) : L' g ≠ [] := by
  rcases TP.2.2.2.2 with ⟨u1, -, u3, -⟩ | ⟨u1, u2, u3, u4, u5, u6⟩
  · rw [u1]; exact u3
  · rw [u4, tr_Ls]
    intro q
    have := List.append_eq_nil_iff.mp q
    exact nomatch this.2
theorem ma_R1 (G : tr_G ft lt tc) (NE : ∀ t, 1 ≤ t → t ≤ 5 → (L t ≠ [] ↔ tr_rk ft t < tc)) (TP : tr_TP L tf cu lt 0 L' tf' cu' x i) : li_R ft lt tc L' := by
  refine Or.inr ⟨G, fun t t1 t2 => ?_⟩
  by_cases z : t = lt
  · subst z
    have : tr_rk ft t < tc := by
      have := G.2.2.2.2.2.2
      unfold tr_rk
      omega
    exact ⟨fun _ => this, fun _ => tp_ne TP⟩
  · rw [tp_L z TP]
    exact NE t t1 t2
theorem ma_nt {l : Nat} (h : l ≤ 5) : tr_nt l = l + 1 ∧ l < 5 ∨ tr_nt l = 1 ∧ l = 5 := by
  unfold tr_nt
  by_cases u : l < 5
  · rw [if_pos u]; exact Or.inl ⟨rfl, u⟩
  · rw [if_neg u]; exact Or.inr ⟨rfl, by omega⟩
theorem ma_R2 (RR : li_R ft lt tc L) (h5 : tc < 5) (TP : tr_TP L tf cu (tr_nt lt) 0 L' tf' cu' x i) : li_R (if tc = 0 then tr_nt lt else ft) (tr_nt lt) (tc + 1) L' := by
  have nt := tr_nt1 (l := lt)
  rcases RR with ⟨r1, r2, r3, r4⟩ | ⟨G, NE⟩
  · rw [if_pos r1]
    refine Or.inr ⟨⟨nt.1, nt.2, nt.1, nt.2, by omega, by omega, by omega⟩, fun t t1 t2 => ?_⟩
    by_cases z : t = tr_nt lt
    · rw [z, li_rk0 nt.1 nt.2]
      exact ⟨fun _ => by omega, fun _ => tp_ne TP⟩
    · rw [tp_L z TP, r4 t t1 t2]
      refine ⟨fun q => absurd rfl q, fun q => absurd ?_ z⟩
      unfold tr_rk at q
      omega
  · obtain ⟨g1, g2, g3, g4, g5, g6, g7⟩ := G
    rw [if_neg (by omega)]
    have hn := ma_nt g4
    have hr : (tr_nt lt + 5 - ft) % 5 = tc := by omega
    refine Or.inr ⟨⟨g1, g2, nt.1, nt.2, by omega, by omega, by omega⟩, fun t t1 t2 => ?_⟩
    by_cases z : t = tr_nt lt
    · rw [z]
      exact ⟨fun _ => by unfold tr_rk; omega, fun _ => tp_ne TP⟩
    · rw [tp_L z TP, NE t t1 t2]
      unfold tr_rk
      omega
end MA
section MA2
variable {rl st : Int32} {rc mb bk sk qc mt : Nat} {bo rq fc ce : Nat → Nat} {vl mk sl : Nat → Int32}
def ym_z (ce : Nat → Nat) (b : Nat) : Nat → Nat → Nat
  | 0 => ce
  | f + 1 => na_u (ym_z ce b f) (3 * b + f) 0
theorem ym_zs {b : Nat} : ∀ f, f ≤ 3 → ∀ y, ym_z ce b f y = if y / 3 = b ∧ y % 3 < f then 0 else ce y := by
  intro f
  induction f with
  | zero => intro _ y; rw [if_neg (by omega)]; rfl
  | succ f ih =>
    intro hf y
    show na_u (ym_z ce b f) (3 * b + f) 0 y = _
    by_cases a : y = 3 * b + f
    · rw [if_pos (by omega), a, na_us]
    · rw [na_un a, ih (by omega)]
      by_cases d : y / 3 = b ∧ y % 3 < f
      · rw [if_pos d, if_pos (by omega)]
      · rw [if_neg d, if_neg (by omega)]
theorem ym_94 {post : Int32 → SY → Prop} {r : Nat} (hr : r < 8) (hb : bk < 24) (K : post (nI mt) (nI rc, nI mb, nI (bk + 1), nI sk, nI 0, nI mt, rl, st, na_A (na_u rq r mt), na_A bo, na_A fc, vl, na_A (ym_z ce bk 3), mk, sl)) :
    ∀ d f n, f + d = 3 → d < n → wY_make_94 post (nI r) (nI bk) (nI rc) (nI mb) (nI bk) (nI sk) (nI qc) (nI mt) rl st n (nI f) (na_A rq) (na_A bo) (na_A fc) vl (na_A (ym_z ce bk f)) mk sl := by
  intro d
  induction d with
  | zero =>
    intro f n h1 h2
    obtain ⟨n, rfl⟩ : ∃ m, n = m + 1 := ⟨n - 1, by omega⟩
    have : f = 3 := by omega
    subst this
    rw [wY_make_94]
    exact br_t (nI_le (a := 3) (b := 3) (by omega) (by omega)) (nm_r (nI_1 bk) ⟨vp_in_nI hr (by omega), nm_r (na_wr (by omega)) K⟩)
  | succ d ih =>
    intro f n h1 h2
    obtain ⟨n, rfl⟩ : ∃ m, n = m + 1 := ⟨n - 1, by omega⟩
    rw [wY_make_94]
    refine br_f (nI_ge (b := 3) (by omega) (by omega)) ?_
    rw [na_m3]
    exact ⟨vp_in_nI (by omega) (by omega), nm_r (na_wr (v := 0) (by omega)) (nm_r (nI_1 f) (ih (f + 1) n (by omega) (by omega)))⟩
end MA2
end
section
/-! make: the call -/
theorem i_vc_make {k : Nat} {u : SX} {v : SY} (I : i_Rel k u v) (hk : k + 5 ≤ 2562) (v1 : Int32) (v2 : Int32) (v3 : Int32) : wpX_make (fun r u' => wpY_make (fun r' v' => r' = r ∧ i_Rel (k + 5) u' v') v v1 v2 v3) u v1 v2 v3 := by
  refine I (fun u v => wpX_make (fun r u' => wpY_make (fun r' v' => r' = r ∧ i_Rel (k + 5) u' v') v v1 v2 v3) u v1 v2 v3) ?_
  intro k1 k2 k3 k4 rl st rc mb ft lt tc bk sk qc mt bo rq fc ce vl mk qu sl E Ro ra sr fo va so he R rn rp rh L tf cn cu th tt tk bp F
  have Y := F.2.2.2.1
  have W := F.2.1
  have RR := F.2.2.1
  have hrc : rc ≤ 8 := Y.2.1
  have hbk : bk ≤ 24 := Y.1
  have hmb : mb ≤ 24 := F.1.1
  have hmt : mt ≤ 1000000 := F.1.2.2.2.2
  unfold wpX_make wpY_make
  rcases rt_or v1 hrc with b1 | ⟨r, hr, rfl⟩
  · exact bx1 b1 (br_f (by decide) (by1 b1 (br_f (by decide) ⟨rfl, re_mk F⟩)))
  · by_cases z : v2 < 0
    · exact bx0 hr hrc (br_t rfl (br_t z (by0 hr hrc (br_t rfl (br_t z ⟨rfl, re_mk F⟩)))))
    · obtain ⟨fl, hfl, rfl⟩ := nI_of z
      by_cases w : fl ≤ 3
      · have w' : nI fl ≤ 3 := nI_le (b := 3) w (by omega)
        by_cases m : mt < 1000000
        · have m' : nI mt < 1000000 := nI_lt (b := 1000000) m (by omega)
          by_cases b : bk < mb
          · have b' := nI_lt b (by omega)
            have wr : vp_in (nI r) 8 := vp_in_nI (by omega) (by omega)
            have wb : vp_in (nI bk) 24 := vp_in_nI (by omega) (by omega)
            have hfree := hp_free W.1 hbk
            have ce1 : ∀ s f, s < bk → f < 3 → ym_z ce bk 3 (3 * s + f) = ce (3 * s + f) := fun s f hs hf => by
              rw [ym_zs 3 (by omega), if_neg (by omega)]
            have ce2 : ∀ f, f < 3 → ym_z ce bk 3 (3 * bk + f) = 0 := fun f hf => by
              rw [ym_zs 3 (by omega), if_pos (by omega)]
            have nt := tr_nt1 (l := lt)
            have hl5 : lt ≤ 5 := by
              rcases RR with q | q
              · exact q.2.2.1
              · exact q.1.2.2.2.1
            have hc5 : tc ≤ 5 := by
              rcases RR with q | q
              · omega
              · exact q.1.2.2.2.2.2.1
            have htt : tc ≠ 0 → tt lt < 28 := fun q => by
              rcases RR with p | ⟨G, NE⟩
              · exact absurd p.1 q
              · have hne : L lt ≠ [] := (NE lt G.2.2.1 G.2.2.2.1).mpr (by have := G.2.2.2.2.2.2; unfold tr_rk; omega)
                rw [((W.2.1.1 lt G.2.2.1 G.2.2.2.1).2.2 (by have := G.2.2.1; omega)).2.1]
                exact ((W.2.1.2.1 lt _ G.2.2.1 G.2.2.2.1).mp (rl_lam _ 0 hne)).2.1
            refine bx0 hr hrc (br_t rfl (br_f z (br_t w' (br_t m' (br_t b' (tr_new hl5 hc5 htt (fun tc0 => ?_) (fun tc5 => ?_)))))))
            · rcases RR with p | ⟨G, NE⟩
              · exact absurd p.1 tc0
              · refine tr_take (b := 0) W.2.1 G.2.2.1 G.2.2.2.1 (Or.inl rfl) (by omega) hfree (fun L' tf' cn' cu' th' tt' tk' x i TI' TP => ?_)
                have x1 := TP.1
                have x2 := TP.2.1
                have x4 := TP.2.2.2.1
                have wp : vp_in (nI (4 * x + i)) 112 := vp_in_nI (by omega) (by omega)
                refine nm_r (nI_1 mt) ⟨wp, nm_r (na_wr (by omega)) ⟨wp, nm_r (na_wr (by omega)) ⟨wp, nm_r (na_ww (by omega)) ⟨wp, nm_r (na_wr (by omega)) ⟨wb, nm_r (na_wr (by omega)) ⟨wb, nm_r (na_wr (by omega)) (nm_r (nI_1 bk) ⟨wr, nm_r (na_wr (by omega)) ?_⟩)⟩⟩⟩⟩⟩⟩
                exact by0 hr hrc (br_t rfl (br_f z (br_t w' (br_t m' (br_t b' (nm_r (nI_1 mt) ⟨wb, nm_r (na_wr (by omega)) ⟨wb, nm_r (na_wr (by omega)) ⟨wb, nm_r (na_ww (by omega)) ⟨4, ym_94 (by omega) (by omega) ⟨rfl, re_mk (re_make F m b w G.2.2.1 G.2.2.2.1 TP TI' (ma_R1 G NE TP) ce1 ce2 hr)⟩ 3 0 4 (by omega) (by omega)⟩⟩⟩⟩))))))
            · refine tr_take (b := 0) W.2.1 nt.1 nt.2 (Or.inl rfl) (by omega) hfree (fun L' tf' cn' cu' th' tt' tk' x i TI' TP => ?_)
              have x1 := TP.1
              have x2 := TP.2.1
              have x4 := TP.2.2.2.1
              have wp : vp_in (nI (4 * x + i)) 112 := vp_in_nI (by omega) (by omega)
              refine nm_r (nI_1 mt) ⟨wp, nm_r (na_wr (by omega)) ⟨wp, nm_r (na_wr (by omega)) ⟨wp, nm_r (na_ww (by omega)) ⟨wp, nm_r (na_wr (by omega)) ⟨wb, nm_r (na_wr (by omega)) ⟨wb, nm_r (na_wr (by omega)) (nm_r (nI_1 bk) ⟨wr, nm_r (na_wr (by omega)) ?_⟩)⟩⟩⟩⟩⟩⟩
              exact by0 hr hrc (br_t rfl (br_f z (br_t w' (br_t m' (br_t b' (nm_r (nI_1 mt) ⟨wb, nm_r (na_wr (by omega)) ⟨wb, nm_r (na_wr (by omega)) ⟨wb, nm_r (na_ww (by omega)) ⟨4, ym_94 (by omega) (by omega) ⟨rfl, re_mk (re_make F m b w nt.1 nt.2 TP TI' (ma_R2 RR tc5 TP) ce1 ce2 hr)⟩ 3 0 4 (by omega) (by omega)⟩⟩⟩⟩))))))
          · have b' := nI_nlt (a := bk) (b := mb) (by omega) (by omega)
            exact bx0 hr hrc (br_t rfl (br_f z (br_t w' (br_t m' (br_f b' (by0 hr hrc (br_t rfl (br_f z (br_t w' (br_t m' (br_f b' ⟨rfl, re_mk F⟩)))))))))))
        · have m' : ¬ nI mt < 1000000 := nI_nlt (a := mt) (b := 1000000) (by omega) (by omega)
          exact bx0 hr hrc (br_t rfl (br_f z (br_t w' (br_f m' (by0 hr hrc (br_t rfl (br_f z (br_t w' (br_f m' ⟨rfl, re_mk F⟩)))))))))
      · have w' : ¬ nI fl ≤ 3 := nI_ge (a := 3) (by omega) hfl
        exact bx0 hr hrc (br_t rfl (br_f z (br_f w' (by0 hr hrc (br_t rfl (br_f z (br_f w' ⟨rfl, re_mk F⟩)))))))
end
section
/-! beats -/
theorem bt_loop {post : Int32 → SX → Prop} {Z : (Int32 → SY → Prop) → Prop} {v1 : Int32} {cnt : Nat} (hc : cnt ≤ 256) (hy1 : ∀ i, i < cnt → ¬ v1 ≤ nI i ∧ ¬ (256 : Int32) ≤ nI i) (hy2 : v1 ≤ nI cnt ∨ (256 : Int32) ≤ nI cnt)
    (hpost : ∀ (k1 k2 k3 k4 rl st : Int32) (rc mb ft lt tc bk sk qc mt : Nat) (bo rq fc ce : Nat → Nat) (vl mk qu sl : Nat → Int32) (E : Nat → Nat → Nat) (Ro : Nat → Nat) (ra sr fo : Nat → Nat) (va : Nat → Int32) (so he : Nat → Nat) (R : Nat → List Nat) (rn rp rh : Nat → Nat) (L : Nat → List Nat) (tf cn cu th tt tk bp : Nat → Nat), re_F rc mb ft lt tc bk sk qc mt bo rq fc ce vl E Ro ra sr fo va so he R rn rp rh L tf cn cu th tt tk bp → (∀ q : Int32 → SY → Prop, (∀ mk : Nat → Int32, q (nI qc) (nI rc, nI mb, nI bk, nI sk, nI qc, nI mt, rl, st, na_A rq, na_A bo, na_A fc, vl, na_A ce, mk, sl)) → Z q) → post (nI qc) (k1, k2, k3, k4, nI rc, nI mb, nI ft, nI lt, nI tc, nI bk, nI sk, nI qc, nI mt, rl, st, na_A ra, na_A sr, na_A fo, va, na_A so, na_A he, na_A rn, na_A rp, na_A tf, na_A cn, na_A cu, na_A rh, na_A th, na_A tt, na_A tk, qu, na_A bo, na_A bp, sl)) :
    ∀ (d i n : Nat) (k1 k2 k3 k4 rl st : Int32) (rc mb ft lt tc bk sk qc mt : Nat) (bo rq fc ce : Nat → Nat) (vl mk qu sl : Nat → Int32) (E : Nat → Nat → Nat) (Ro : Nat → Nat) (ra sr fo : Nat → Nat) (va : Nat → Int32) (so he : Nat → Nat) (R : Nat → List Nat) (rn rp rh : Nat → Nat) (L : Nat → List Nat) (tf cn cu th tt tk bp : Nat → Nat), i + d = cnt → d < n → re_F rc mb ft lt tc bk sk qc mt bo rq fc ce vl E Ro ra sr fo va so he R rn rp rh L tf cn cu th tt tk bp → (∀ q : Int32 → SY → Prop, (∀ mk : Nat → Int32, wY_beats_2 q v1 (258 - i) (nI i) (nI rc) (nI mb) (nI bk) (nI sk) (nI qc) (nI mt) rl st (na_A rq) (na_A bo) (na_A fc) vl (na_A ce) mk sl) → Z q) → wX_beats_21 post (nI cnt) n (nI i) k1 k2 k3 k4 (nI rc) (nI mb) (nI ft) (nI lt) (nI tc) (nI bk) (nI sk) (nI qc) (nI mt) rl st (na_A ra) (na_A sr) (na_A fo) va (na_A so) (na_A he) (na_A rn) (na_A rp) (na_A tf) (na_A cn) (na_A cu) (na_A rh) (na_A th) (na_A tt) (na_A tk) qu (na_A bo) (na_A bp) sl := by
  intro d
  induction d with
  | zero =>
    intro i n k1 k2 k3 k4 rl st rc mb ft lt tc bk sk qc mt bo rq fc ce vl mk qu sl E Ro ra sr fo va so he R rn rp rh L tf cn cu th tt tk bp h1 h2 F ZZ
    obtain ⟨n, rfl⟩ : ∃ m, n = m + 1 := ⟨n - 1, by omega⟩
    have : i = cnt := by omega
    subst this
    rw [wX_beats_21]
    refine br_t (nI_le (Nat.le_refl _) (by omega)) (hpost k1 k2 k3 k4 rl st rc mb ft lt tc bk sk qc mt bo rq fc ce vl mk qu sl E Ro ra sr fo va so he R rn rp rh L tf cn cu th tt tk bp F (fun q h => ZZ q (fun mk => ?_)))
    obtain ⟨m, em⟩ : ∃ m, 258 - i = m + 1 := ⟨257 - i, by omega⟩
    rw [em, wY_beats_2]
    by_cases z : v1 ≤ nI i
    · exact br_t z (h mk)
    · exact br_f z (br_t (hy2.resolve_left z) (h mk))
  | succ d ih =>
    intro i n k1 k2 k3 k4 rl st rc mb ft lt tc bk sk qc mt bo rq fc ce vl mk qu sl E Ro ra sr fo va so he R rn rp rh L tf cn cu th tt tk bp h1 h2 F ZZ
    obtain ⟨n, rfl⟩ : ∃ m, n = m + 1 := ⟨n - 1, by omega⟩
    obtain ⟨hv1, hv2⟩ := hy1 i (by omega)
    have em : 258 - i = (258 - (i + 1)) + 1 := by omega
    have hq : qc ≤ 1024 := F.1.2.2.2.1
    rw [wX_beats_21]
    refine br_f (nI_ge (by omega) (by omega)) ?_
    by_cases z : qc < 1024
    · obtain ⟨N, W, RR, Y, hm, V⟩ := F
      obtain ⟨j, p, V, hp⟩ := V z
      have nq : ¬ (1024 : Int32) ≤ nI qc := nI_ge (b := 1024) z (by omega)
      refine br_t (nI_lt (b := 1024) z (by omega)) (be_work W RR V (fun ra' sr' fo' va' so' he' R' rn' rp' rh' L' tf' cn' cu' th' tt' tk' bp' qu' ft' lt' tc' W' RR' hal jV => nm_r (nI_1 qc) ?_))
      obtain ⟨j', V'⟩ := jV
      have Y' := re_yf Y (ab_of W') (fun r hr => (W'.1.2.2.2.1 r hr).2) hal
      by_cases e : qc + 1 = 1024
      · have e1 : nI (qc + 1) = 1024 := by rw [e]; rfl
        have j0 : j' = 0 := by
          rcases V'.2.2 with q | ⟨A, B, mm, v1, v2, v3, v4, v5, v6, v7⟩
          · exact q
          · omega
        have ha : ∀ s, s < bk → bp' s ≠ 0 → rs_R rc E Ro s := fun s hs h0 => V'.2.1 s hs h0 (by rw [j0]; exact Nat.zero_le _)
        have F' : re_F rc mb ft' lt' tc' bk sk 1024 mt bo rq fc ce vl E Ro ra' sr' fo' va' so' he' R' rn' rp' rh' L' tf' cn' cu' th' tt' tk' bp' := ⟨⟨N.1, N.2.1, N.2.2.1, Nat.le_refl _, N.2.2.2.2⟩, W', RR', Y', hm, fun q => absurd q (Nat.lt_irrefl _)⟩
        have kle := se_Kle (a := bp') bk
        have FS := re_setl F'
        refine br_t e1 (se_Xs Y.1 (fun s hs => ?_) (nm_r (nI_1 i) ?_))
        · by_cases b0 : bp' s = 0
          · rw [b0]; omega
          · exact (W'.1.1 s hs b0).2.1
        · rw [pk_sub kle, e]
          refine ih (i + 1) n k1 k2 k3 k4 (rl + nI (bk - se_K bp' bk)) (st + 1) rc mb ft' lt' tc' _ _ 1024 mt _ rq _ _ _ mk qu' _ _ _ ra' sr' fo' va' _ he' R' rn' rp' rh' L' tf' cn' cu' th' tt' tk' _ (by omega) (by omega) FS (fun q h => ZZ q (fun mk => ?_))
          rw [em, wY_beats_2]
          refine br_f hv1 (br_f hv2 (br_f nq (nm_r (nI_1 qc) (br_t e1 ?_))))
          rw [e]
          exact sy_settle Y' ha (fun mk => nm_r (nI_1 i) (h mk))
      · have e1 : ¬ nI (qc + 1) = 1024 := fun q => e ((nI_eq (b := 1024) (by omega) (by omega)).mp q)
        refine br_f e1 (nm_r (nI_1 i) ?_)
        have F' : re_F rc mb ft' lt' tc' bk sk (qc + 1) mt bo rq fc ce vl E Ro ra' sr' fo' va' so' he' R' rn' rp' rh' L' tf' cn' cu' th' tt' tk' bp' := ⟨⟨N.1, N.2.1, N.2.2.1, by omega, N.2.2.2.2⟩, W', RR', Y', hm, fun _ => ⟨j', p - 1, V', by omega⟩⟩
        refine ih (i + 1) n k1 k2 k3 k4 rl st rc mb ft' lt' tc' bk sk (qc + 1) mt bo rq fc ce vl mk qu' sl E Ro ra' sr' fo' va' so' he' R' rn' rp' rh' L' tf' cn' cu' th' tt' tk' bp' (by omega) (by omega) F' (fun q h => ZZ q (fun mk => ?_))
        rw [em, wY_beats_2]
        exact br_f hv1 (br_f hv2 (br_f nq (nm_r (nI_1 qc) (br_f e1 (nm_r (nI_1 i) (h mk))))))
    · have nq : (1024 : Int32) ≤ nI qc := nI_le (a := 1024) (by omega) (by omega)
      refine br_f (nI_nlt (b := 1024) (by omega) (by omega)) (nm_r (nI_1 i) (ih (i + 1) n k1 k2 k3 k4 rl st rc mb ft lt tc bk sk qc mt bo rq fc ce vl mk qu sl E Ro ra sr fo va so he R rn rp rh L tf cn cu th tt tk bp (by omega) (by omega) F (fun q h => ZZ q (fun mk => ?_))))
      rw [em, wY_beats_2]
      exact br_f hv1 (br_f hv2 (br_t nq (nm_r (nI_1 i) (h mk))))
theorem i_vc_beats {k : Nat} {u : SX} {v : SY} (I : i_Rel k u v) (hk : k + 5 ≤ 2562) (v1 : Int32) : wpX_beats (fun r u' => wpY_beats (fun r' v' => r' = r ∧ i_Rel (k + 5) u' v') v v1) u v1 := by
  refine I (fun u v => wpX_beats (fun r u' => wpY_beats (fun r' v' => r' = r ∧ i_Rel (k + 5) u' v') v v1) u v1) ?_
  intro k1 k2 k3 k4 rl st rc mb ft lt tc bk sk qc mt bo rq fc ce vl mk qu sl E Ro ra sr fo va so he R rn rp rh L tf cn cu th tt tk bp F
  have go : ∀ cnt, cnt ≤ 256 → (∀ i, i < cnt → ¬ v1 ≤ nI i ∧ ¬ (256 : Int32) ≤ nI i) → (v1 ≤ nI cnt ∨ (256 : Int32) ≤ nI cnt) → wX_beats_21 (fun r u' => wpY_beats (fun r' v' => r' = r ∧ i_Rel (k + 5) u' v') (nI rc, nI mb, nI bk, nI sk, nI qc, nI mt, rl, st, na_A rq, na_A bo, na_A fc, vl, na_A ce, mk, sl) v1) (nI cnt) 258 (nI 0) k1 k2 k3 k4 (nI rc) (nI mb) (nI ft) (nI lt) (nI tc) (nI bk) (nI sk) (nI qc) (nI mt) rl st (na_A ra) (na_A sr) (na_A fo) va (na_A so) (na_A he) (na_A rn) (na_A rp) (na_A tf) (na_A cn) (na_A cu) (na_A rh) (na_A th) (na_A tt) (na_A tk) qu (na_A bo) (na_A bp) sl := fun cnt h1 h2 h3 =>
    bt_loop (Z := fun q => wpY_beats q (nI rc, nI mb, nI bk, nI sk, nI qc, nI mt, rl, st, na_A rq, na_A bo, na_A fc, vl, na_A ce, mk, sl) v1) h1 h2 h3 (by
      intro k1 k2 k3 k4 rl st rc mb ft lt tc bk sk qc mt bo rq fc ce vl mk qu sl E Ro ra sr fo va so he R rn rp rh L tf cn cu th tt tk bp F hZ
      exact hZ _ (fun mk => ⟨rfl, re_mk F⟩)) cnt 0 258 k1 k2 k3 k4 rl st rc mb ft lt tc bk sk qc mt bo rq fc ce vl mk qu sl E Ro ra sr fo va so he R rn rp rh L tf cn cu th tt tk bp (by omega) (by omega) F (fun q h => ⟨258, h mk⟩)
  by_cases z : 0 ≤ v1
  · obtain ⟨c, hc, rfl⟩ := nI_of (x := v1) (Int32.not_lt.mpr z)
    by_cases w : c ≤ 256
    · refine br_t z (br_t (nI_le (b := 256) w (by omega)) ⟨258, go c w (fun i hi => ⟨nI_ge hi hc, nI_ge (b := 256) (by omega) (by omega)⟩) (Or.inl (nI_le (Nat.le_refl _) hc))⟩)
    · refine br_t z (br_f (nI_ge (a := 256) (by omega) hc) ⟨258, go 256 (Nat.le_refl _) (fun i hi => ⟨nI_ge (by omega) hc, nI_ge (b := 256) hi (by omega)⟩) (Or.inr (nI_le (a := 256) (b := 256) (Nat.le_refl _) (by omega)))⟩)
  · have z' : v1 ≤ nI 0 := Int32.le_of_lt (Int32.not_le.mp z)
    exact br_f z (br_t (by decide) ⟨258, go 0 (by omega) (fun i hi => absurd hi (Nat.not_lt_zero i)) (Or.inl z')⟩)
end
