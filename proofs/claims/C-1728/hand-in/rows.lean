section
/-! rows of PURE-ROWS.to-paste (starting text) -/
theorem pk_us {f : Nat → Int32} {k : Nat} {x : Int32} : upd f k x k = x := if_pos rfl
theorem pk_un {f : Nat → Int32} {k j : Nat} {x : Int32} (h : j ≠ k) : upd f k x j = f j := if_neg h
theorem pk_sub {a b : Nat} (h : b ≤ a) : nI a - nI b = nI (a - b) := by
  obtain ⟨c, rfl⟩ : ∃ c, a = c + b := ⟨a - b, by omega⟩
  rw [← nI_add, Int32.add_sub_cancel, Nat.add_sub_cancel]
theorem pk_m1 (n : Nat) : nI (n + 1) + (-1) = nI n := by
  rw [← nI_1, Int32.add_assoc, show (1 : Int32) + (-1) = 0 from rfl, Int32.add_zero]
theorem pk_mul (a b : Nat) : nI a * nI b = nI (a * b) := (Int32.ofNat_mul a b).symm
theorem pk_ix (x : Int32) {n : Nat} (hn : n < 2 ^ 31) : x < 0 ∨ nI n ≤ x ∨ ∃ j : Nat, j < n ∧ x = nI j := by
  by_cases h : x < 0
  · exact Or.inl h
  · obtain ⟨j, hj, rfl⟩ := nI_of h
    by_cases h2 : j < n
    · exact Or.inr (Or.inr ⟨j, h2, rfl⟩)
    · exact Or.inr (Or.inl (nI_le (by omega) hj))
theorem pk_le {x y : Int32} {A B : Prop} (a b : Nat) (f : a ≤ b → A) (g : b < a → B) (hx : x = nI a := by rfl) (hy : y = nI b := by rfl) (ha : a < 2 ^ 31 := by omega) (hb : b < 2 ^ 31 := by omega) : (x ≤ y → A) ∧ (¬ x ≤ y → B) := by
  subst hx hy
  rw [nI_leI ha hb]
  exact ⟨f, fun z => g (by omega)⟩
theorem pk_lt {x y : Int32} {A B : Prop} (a b : Nat) (f : a < b → A) (g : b ≤ a → B) (hx : x = nI a := by rfl) (hy : y = nI b := by rfl) (ha : a < 2 ^ 31 := by omega) (hb : b < 2 ^ 31 := by omega) : (x < y → A) ∧ (¬ x < y → B) := by
  subst hx hy
  rw [nI_ltI ha hb]
  exact ⟨f, fun z => g (by omega)⟩
theorem pk_eq {x y : Int32} {A B : Prop} (a b : Nat) (f : a = b → A) (g : a ≠ b → B) (hx : x = nI a := by rfl) (hy : y = nI b := by rfl) (ha : a < 2 ^ 31 := by omega) (hb : b < 2 ^ 31 := by omega) : (x = y → A) ∧ (¬ x = y → B) := by
  subst hx hy
  rw [nI_eq ha hb]
  exact ⟨f, g⟩
theorem pk_in {x : Int32} (n N : Nat) (h : n < N) (hx : x = nI n := by rfl) (hN : N < 2 ^ 31 := by omega) : vp_in x N := by
  subst hx
  exact vp_in_nI h hN
theorem pk_cl {x : Int32} (n : Nat) (hx : x = nI n := by rfl) (h : n < 2 ^ 31 := by omega) : x.toNatClampNeg = n := by
  subst hx
  exact nI_clamp h
theorem pk_tn {n : Nat} (h : n < 2 ^ 32) : (nI n).toBitVec.toNat = n := Nat.mod_eq_of_lt h
theorem pk_and (x : Int32) {m : Int32} (k : Nat) (hm : m.toBitVec.toNat = 2 ^ k - 1) : x &&& m = nI (x.toBitVec.toNat % 2 ^ k) := by
  apply Int32.toBitVec_inj.mp
  apply BitVec.eq_of_toNat_eq
  rw [Int32.toBitVec_and, BitVec.toNat_and, hm, Nat.and_two_pow_sub_one_eq_mod]
  show _ = (BitVec.ofNat 32 _).toNat
  rw [BitVec.toNat_ofNat]
  exact (Nat.mod_eq_of_lt (Nat.lt_of_le_of_lt (Nat.mod_le _ _) x.toBitVec.isLt)).symm
theorem pk_andN {n : Nat} (h : n < 2 ^ 32) {m : Int32} (k : Nat) (hm : m.toBitVec.toNat = 2 ^ k - 1) : nI n &&& m = nI (n % 2 ^ k) := by
  rw [pk_and _ k hm, pk_tn h]
end
section
/-- the value of key k at point n of timeline t, in the reference's table -/
def pt_V (vs : Nat → Int32) (t n k : Nat) : Int32 := vs (248 * t + 8 * n + k)
/-- x with its point y is the value of key k at a point of timeline l, e or less -/
def pt_cell (vs : Nat → Int32) (l e k : Nat) (x y : Int32) : Prop := ∃ p, p ≤ e ∧ y = nI p ∧ x = pt_V vs l p k
/-- the log entry at i takes the values at point p of timeline t to those at p + 1 -/
def pt_step (kA vA kB vB vs : Nat → Int32) (t p i : Nat) : Prop :=
  (∃ a, a < 8 ∧ kA i = nI a) ∧ (kB i = -1 ∨ ∃ b, b < 8 ∧ kB i = nI b) ∧
  ∀ k, k < 8 → (kB i = nI k → pt_V vs t (p + 1) k = vB i) ∧ (¬ kB i = nI k → kA i = nI k → pt_V vs t (p + 1) k = vA i) ∧ (¬ kB i = nI k → ¬ kA i = nI k → pt_V vs t (p + 1) k = pt_V vs t p k)
/-- ends and forks of the timelines 0 .. c -/
def pt_En (c : Nat) (en fk : Nat → Nat) (fo ed : Nat → Int32) : Prop :=
  c ≤ 5 ∧ fk 0 = 0 ∧ ∀ t, t ≤ c → en t ≤ 30 ∧ ed t = nI (en t) ∧ fo t = nI (fk t) ∧ fk t ≤ en t
/-- the parents -/
def pt_Pa (c : Nat) (pr fk : Nat → Nat) (pa vs : Nat → Int32) : Prop :=
  pa 0 = -1 ∧ ∀ t, 0 < t → t ≤ c → pr t < t ∧ pa t = nI (pr t) ∧ ∀ q k, q ≤ fk t → k < 8 → pt_V vs t q k = pt_V vs (pr t) q k
/-- the line that went through point p of timeline t itself -/
def pt_E (c : Nat) (pr fk : Nat → Nat) (E : Nat → Nat → Nat) : Prop :=
  ∀ t, t ≤ c → ∀ p, E t p ≤ t ∧ (fk t < p → E t p = t) ∧ (0 < t → p ≤ fk t → E t p = E (pr t) p)
/-- the log -/
def pt_Lg (c : Nat) (en : Nat → Nat) (E : Nat → Nat → Nat) (kA vA kB vB vs : Nat → Int32) : Prop :=
  (∀ t k, t ≤ c → k < 8 → pt_V vs t 0 k = 0) ∧ ∀ t p, t ≤ c → p < en t → pt_step kA vA kB vB vs t p (E t (p + 1) * 31 + (p + 1))
/-- timelines and log together -/
def pt_Co (c : Nat) (en pr fk : Nat → Nat) (E : Nat → Nat → Nat) (kA vA kB vB pa fo ed vs : Nat → Int32) : Prop :=
  pt_En c en fk fo ed ∧ pt_Pa c pr fk pa vs ∧ pt_E c pr fk E ∧ pt_Lg c en E kA vA kB vB vs
/-- a row of eight cells of timeline t up to n -/
def pt_Di (t n : Nat) (di dp vs : Nat → Int32) : Prop := ∀ k, k < 8 → pt_cell vs t n k (di k) (dp k)
def pt_Me (t n : Nat) (me mp vs : Nat → Int32) : Prop := pt_Di t n me mp vs ∧ ∀ k, k < 8 → me k = pt_V vs t n k
/-- what is in slot b, its keys below m, of timeline l up to e -/
def pt_Sl (l e b m : Nat) (sa sp vs : Nat → Int32) : Prop := ∀ k, k < m → pt_cell vs l e k (sa (b * 8 + k)) (sp (b * 8 + k))
def pt_Ba (c : Nat) (en : Nat → Nat) (fi bl be sa sp vs : Nat → Int32) : Prop :=
  ∀ b, b < 4 → ¬ fi b = 0 → ∃ l e, l ≤ c ∧ e ≤ en l ∧ bl b = nI l ∧ be b = nI e ∧ pt_Sl l e b 8 sa sp vs
def pt_Uw (c : Nat) (en : Nat → Nat) (nb : Nat) (fu fc : Int32) (fi bl sa sp vs : Nat → Int32) : Prop :=
  ¬ fu = 0 → ∃ m, m < 8 ∧ fc = nI m ∧ fi nb = 0 ∧ bl nb = nI c ∧ pt_Sl c (en c) nb m sa sp vs
def pt_R (ft fw fb fu fc : Int32) (kA vA kB vB pa fo ed me mp di dp fi bl bb be sa sp : Nat → Int32) (gt : Int32) (vs la : Nat → Int32) : Prop :=
  ∃ (c : Nat) (en pr fk : Nat → Nat) (E : Nat → Nat → Nat) (nb : Nat),
    ft = nI (c + 1) ∧ fw = nI c ∧ fb = nI nb ∧ nb < 4 ∧ gt = nI (c + 1) ∧ la = ed ∧
    pt_Co c en pr fk E kA vA kB vB pa fo ed vs ∧ pt_Me c (en c) me mp vs ∧ pt_Di c (en c) di dp vs ∧
    pt_Ba c en fi bl be sa sp vs ∧ pt_Uw c en nb fu fc fi bl sa sp vs
def i_Rel (k : Nat) (u : SX) (v : SY) : Prop :=
  match u with
  | (ft, fw, fb, fu, fc, kA, vA, kB, vB, pa, fo, ed, me, mp, di, dp, fi, bl, bb, be, sa, sp) => match v with
    | (gt, vs, la) => pt_R ft fw fb fu fc kA vA kB vB pa fo ed me mp di dp fi bl bb be sa sp gt vs la
theorem pt_el {P : SX → SY → Prop} {k : Nat} {u : SX} {v : SY} (I : i_Rel k u v)
    (h : ∀ ft fw fb fu fc kA vA kB vB pa fo ed me mp di dp fi bl bb be sa sp gt vs la, pt_R ft fw fb fu fc kA vA kB vB pa fo ed me mp di dp fi bl bb be sa sp gt vs la → P (ft, fw, fb, fu, fc, kA, vA, kB, vB, pa, fo, ed, me, mp, di, dp, fi, bl, bb, be, sa, sp) (gt, vs, la)) : P u v := by
  obtain ⟨ft, fw, fb, fu, fc, kA, vA, kB, vB, pa, fo, ed, me, mp, di, dp, fi, bl, bb, be, sa, sp⟩ := u
  obtain ⟨gt, vs, la⟩ := v
  exact h ft fw fb fu fc kA vA kB vB pa fo ed me mp di dp fi bl bb be sa sp gt vs la I
theorem i_up {k : Nat} {u : SX} {v : SY} (h : i_Rel k u v) : i_Rel (k + 4) u v := h
/-! numbers -/
theorem pt_i31 (t p : Nat) : nI t * 31 + nI p = nI (t * 31 + p) := by
  rw [show (31 : Int32) = nI 31 from rfl, pk_mul, nI_add]
theorem pt_i8 (t p : Nat) : nI t * 8 + nI p = nI (t * 8 + p) := by
  rw [show (8 : Int32) = nI 8 from rfl, pk_mul, nI_add]
theorem pt_i248 (t p : Nat) : (248 : Int32) * nI t + 8 * nI p = nI (248 * t + 8 * p) := by
  rw [show (8 : Int32) = nI 8 from rfl, show (248 : Int32) = nI 248 from rfl, pk_mul, pk_mul, nI_add]
theorem pt_m1 (c : Nat) : nI (c + 1) - 1 = nI c := nI_pred c
theorem pt_neg1 : (-1 : Int32) < 0 := by decide
theorem pt_neg_ne {j : Nat} (h : j < 2 ^ 31) : ¬ (-1 : Int32) = nI j := fun e => nI_pos h (e ▸ pt_neg1)
theorem pt_ne (a b : Nat) (h : a ≠ b) (ha : a < 2 ^ 31 := by omega) (hb : b < 2 ^ 31 := by omega) : ¬ nI a = nI b := fun e => h ((nI_eq ha hb).mp e)
/-! cells -/
theorem pt_cell_mono {vs : Nat → Int32} {l e e' k : Nat} {x y : Int32} (h : pt_cell vs l e k x y) (he : e ≤ e') : pt_cell vs l e' k x y := by
  obtain ⟨p, hp, h1, h2⟩ := h
  exact ⟨p, Nat.le_trans hp he, h1, h2⟩
theorem pt_cell_tr {vs vs' : Nat → Int32} {l l' e k : Nat} {x y : Int32} (h : pt_cell vs l e k x y) (ha : ∀ p, p ≤ e → pt_V vs' l' p k = pt_V vs l p k) : pt_cell vs' l' e k x y := by
  obtain ⟨p, hp, h1, h2⟩ := h
  exact ⟨p, hp, h1, h2.trans (ha p hp).symm⟩
/-- the old table's values stay where they were -/
def pt_Ag (c : Nat) (en : Nat → Nat) (vs vs' : Nat → Int32) : Prop := ∀ l p k, l ≤ c → p ≤ en l → k < 8 → pt_V vs' l p k = pt_V vs l p k
theorem pt_Di_mono {t n n' : Nat} {di dp vs : Nat → Int32} (h : pt_Di t n di dp vs) (hn : n ≤ n') : pt_Di t n' di dp vs := fun k hk => pt_cell_mono (h k hk) hn
theorem pt_Di_ag {c t : Nat} {en : Nat → Nat} {di dp vs vs' : Nat → Int32} (h : pt_Di t (en t) di dp vs) (ht : t ≤ c) (ha : pt_Ag c en vs vs') : pt_Di t (en t) di dp vs' :=
  fun k hk => pt_cell_tr (h k hk) fun p hp => ha t p k ht hp hk
theorem pt_Sl_ag {c l e b m : Nat} {en : Nat → Nat} {sa sp vs vs' : Nat → Int32} (h : pt_Sl l e b m sa sp vs) (hm : m ≤ 8) (hl : l ≤ c) (he : e ≤ en l) (ha : pt_Ag c en vs vs') : pt_Sl l e b m sa sp vs' :=
  fun k hk => pt_cell_tr (h k hk) fun p hp => ha l p k hl (Nat.le_trans hp he) (Nat.lt_of_lt_of_le hk hm)
theorem pt_Sl_mono {l e e' b m : Nat} {sa sp vs : Nat → Int32} (h : pt_Sl l e b m sa sp vs) (he : e ≤ e') : pt_Sl l e' b m sa sp vs := fun k hk => pt_cell_mono (h k hk) he
end
section
section
variable {ft fw fb fu fc : Int32} {kA vA kB vB pa fo ed me mp di dp fi bl bb be sa sp : Nat → Int32}
variable {vs : Nat → Int32} {c : Nat} {en pr fk : Nat → Nat} {E : Nat → Nat → Nat}
/-! the checks -/
theorem pt_xbad_ok {post : Int32 → Prop} {k : Nat} (hk : k < 8) (h : post 0) : wpX_bad post (ft, fw, fb, fu, fc, kA, vA, kB, vB, pa, fo, ed, me, mp, di, dp, fi, bl, bb, be, sa, sp) (nI k) :=
  br_f (nI_pos (by omega)) (br_t (nI_lt (b := 8) hk (by decide)) h)
theorem pt_xbad_no {post : Int32 → Prop} {x : Int32} (hx : x < 0 ∨ nI 8 ≤ x) (h : post 1) : wpX_bad post (ft, fw, fb, fu, fc, kA, vA, kB, vB, pa, fo, ed, me, mp, di, dp, fi, bl, bb, be, sa, sp) x := by
  by_cases h0 : x < 0
  · exact br_t h0 h
  · exact br_f h0 (br_f (Int32.not_lt.mpr (hx.resolve_left h0)) h)
theorem pt_ykey_ok {post : Int32 → Prop} {gt : Int32} {la : Nat → Int32} {k : Nat} (hk : k < 8) (h : post 1) : wpY_isKey post (gt, vs, la) (nI k) :=
  br_f (nI_pos (by omega)) (br_f (nI_nlt (a := 7) (b := k) (by omega) (by decide)) h)
theorem pt_ykey_no {post : Int32 → Prop} {gt : Int32} {la : Nat → Int32} {x : Int32} (hx : x < 0 ∨ nI 8 ≤ x) (h : post 0) : wpY_isKey post (gt, vs, la) x := by
  by_cases h0 : x < 0
  · exact br_t h0 h
  · have h8 : nI 8 ≤ x := hx.resolve_left h0
    obtain ⟨j, hj, rfl⟩ := nI_of h0
    have h9 : 8 ≤ j := (nI_leI (by decide) hj).mp h8
    exact br_f h0 (br_t (nI_lt (a := 7) (by omega) hj) h)
/-- x, y is a point -/
def pt_pt (c : Nat) (en : Nat → Nat) (x y : Int32) : Prop := ∃ t n, t ≤ c ∧ n ≤ en t ∧ x = nI t ∧ y = nI n
theorem pt_xnp_ok {post : Int32 → Prop} (hE : pt_En c en fk fo ed) {t n : Nat} (ht : t ≤ c) (hn : n ≤ en t) (h : post 0) : wpX_noPoint post (nI (c + 1), fw, fb, fu, fc, kA, vA, kB, vB, pa, fo, ed, me, mp, di, dp, fi, bl, bb, be, sa, sp) (nI t) (nI n) := by
  obtain ⟨hc, _, he⟩ := hE
  obtain ⟨h30, hed, _, _⟩ := he t ht
  refine br_f (nI_pos (by omega)) (br_f (nI_ge (by omega) (by omega)) (br_f (nI_pos (by omega)) ⟨vp_in_nI (by omega) (by decide), br_t ?_ h⟩))
  rw [nI_clamp (by omega), hed]
  exact nI_le hn (by omega)
theorem pt_xnp_no {post : Int32 → Prop} (hE : pt_En c en fk fo ed) {x y : Int32} (hx : ¬ pt_pt c en x y) (h : post 1) : wpX_noPoint post (nI (c + 1), fw, fb, fu, fc, kA, vA, kB, vB, pa, fo, ed, me, mp, di, dp, fi, bl, bb, be, sa, sp) x y := by
  obtain ⟨hc, _, he⟩ := hE
  by_cases h0 : x < 0
  · exact br_t h0 h
  · obtain ⟨t, ht, rfl⟩ := nI_of h0
    by_cases h1 : nI (c + 1) ≤ nI t
    · exact br_f h0 (br_t h1 h)
    · have htc : t ≤ c := by
        have := mt (nI_leI (by omega) ht).mpr h1
        omega
      obtain ⟨h30, hed, _, _⟩ := he t htc
      by_cases h2 : y < 0
      · exact br_f h0 (br_f h1 (br_t h2 h))
      · obtain ⟨n, hn, rfl⟩ := nI_of h2
        refine br_f h0 (br_f h1 (br_f h2 ⟨vp_in_nI (by omega) (by decide), br_f ?_ h⟩))
        rw [nI_clamp ht, hed]
        intro h3
        exact hx ⟨t, n, htc, (nI_leI hn (by omega)).mp h3, rfl, rfl⟩
theorem pt_yip_ok {post : Int32 → Prop} (hE : pt_En c en fk fo ed) {t n : Nat} (ht : t ≤ c) (hn : n ≤ en t) (h : post 1) : wpY_isPoint post (nI (c + 1), vs, ed) (nI t) (nI n) := by
  obtain ⟨hc, _, he⟩ := hE
  obtain ⟨h30, hed, _, _⟩ := he t ht
  refine br_f (nI_pos (by omega)) (br_f (nI_ge (by omega) (by omega)) (br_f (nI_pos (by omega)) ⟨vp_in_nI (by omega) (by decide), br_f ?_ h⟩))
  rw [nI_clamp (by omega), hed]
  exact nI_nlt hn (by omega)
theorem pt_yip_no {post : Int32 → Prop} (hE : pt_En c en fk fo ed) {x y : Int32} (hx : ¬ pt_pt c en x y) (h : post 0) : wpY_isPoint post (nI (c + 1), vs, ed) x y := by
  obtain ⟨hc, _, he⟩ := hE
  by_cases h0 : x < 0
  · exact br_t h0 h
  · obtain ⟨t, ht, rfl⟩ := nI_of h0
    by_cases h1 : nI (c + 1) ≤ nI t
    · exact br_f h0 (br_t h1 h)
    · have htc : t ≤ c := by
        have := mt (nI_leI (by omega) ht).mpr h1
        omega
      obtain ⟨h30, hed, _, _⟩ := he t htc
      by_cases h2 : y < 0
      · exact br_f h0 (br_f h1 (br_t h2 h))
      · obtain ⟨n, hn, rfl⟩ := nI_of h2
        refine br_f h0 (br_f h1 (br_f h2 ⟨vp_in_nI (by omega) (by decide), br_t ?_ h⟩))
        rw [nI_clamp ht, hed, nI_ltI (by omega) hn]
        have : ¬ n ≤ en t := fun h3 => hx ⟨t, n, htc, h3, rfl, rfl⟩
        omega
/-! the log's entry -/
theorem pt_entry_5 {post : Int32 → Prop} (hE : pt_En c en fk fo ed) (hP : pt_Pa c pr fk pa vs) (hO : pt_E c pr fk E) {p : Nat} (hp : 0 < p) (hp3 : p ≤ 30) :
    ∀ m t : Nat, t < m → t ≤ c → ∀ i : Nat, t + i ≤ 5 → ∀ n : Nat, t < n → post (nI (E t p * 31 + p)) → wX_entry_5 post (nI p) ft fw fb fu fc kA vA kB vB pa fo ed me mp di dp fi bl bb be sa sp n (nI t) (nI i) := by
  obtain ⟨hc, hf0, he⟩ := hE
  obtain ⟨hpa0, hpa⟩ := hP
  intro m
  induction m with
  | zero => intro t h; omega
  | succ m ih =>
    intro t htm htc i hi n hn hpost
    cases n with
    | zero => omega
    | succ n =>
      obtain ⟨h30, hed, hfo, hfe⟩ := he t htc
      obtain ⟨hE1, hE2, hE3⟩ := hO t htc p
      have hcl : (nI t).toNatClampNeg = t := nI_clamp (by omega)
      have hin : vp_in (nI t) 6 := vp_in_nI (by omega) (by decide)
      refine br_f (nI_ge (b := 6) (by omega) (by decide)) ⟨hin, ?_⟩
      rw [hcl, hfo]
      refine pk_lt (fk t) p (fun h => ?_) (fun h => ?_) rfl rfl (by omega) (by omega)
      · rw [hE2 h] at hpost
        rw [pt_i31]
        exact hpost
      · have ht0 : 0 < t := by
          rcases Nat.eq_zero_or_pos t with h0 | h0
          · rw [h0, hf0] at h; omega
          · exact h0
        obtain ⟨hq1, hq2, _⟩ := hpa t ht0 htc
        rw [hq2]
        refine ⟨hin, br_f (nI_pos (by omega)) ⟨hin, nm_e (nm_r (nI_1 i) ?_)⟩⟩
        rw [hE3 ht0 h] at hpost
        exact ih (pr t) (by omega) (by omega) (i + 1) (by omega) n (by omega) hpost
theorem pt_entry {post : Int32 → Prop} (hE : pt_En c en fk fo ed) (hP : pt_Pa c pr fk pa vs) (hO : pt_E c pr fk E) {t p : Nat} (ht : t ≤ c) (hp : 0 < p) (hp3 : p ≤ 30)
    (h : post (nI (E t p * 31 + p))) : wpX_entry post (ft, fw, fb, fu, fc, kA, vA, kB, vB, pa, fo, ed, me, mp, di, dp, fi, bl, bb, be, sa, sp) (nI t) (nI p) := by
  have hc := hE.1
  exact ⟨t + 1, pt_entry_5 hE hP hO hp hp3 (t + 1) t (by omega) ht 0 (by omega) (t + 1) (by omega) h⟩
/-! the value then -/
theorem pt_valueThen_3 {post : Int32 → Prop} (C : pt_Co c en pr fk E kA vA kB vB pa fo ed vs) {t k : Nat} (ht : t ≤ c) (hk : k < 8) :
    ∀ p : Nat, p ≤ en t → ∀ n : Nat, p < n → post (pt_V vs t p k) → wX_valueThen_3 post (nI t) (nI k) ft fw fb fu fc kA vA kB vB pa fo ed me mp di dp fi bl bb be sa sp n (nI p) := by
  obtain ⟨hE, hP, hO, hL0, hL⟩ := C
  have hc := hE.1
  have h30 := (hE.2.2 t ht).1
  intro p
  induction p with
  | zero =>
    intro _ n hn hpost
    cases n with
    | zero => omega
    | succ n =>
      rw [hL0 t k ht hk] at hpost
      exact br_t (Int32.le_refl 0) hpost
  | succ p ih =>
    intro hp n hn hpost
    cases n with
    | zero => omega
    | succ n =>
      obtain ⟨_, _, h3⟩ := hL t p ht (by omega)
      have hle := (hO t ht (p + 1)).1
      refine br_f (nI_nle (by omega) (by omega)) (pt_entry hE hP hO ht (by omega) (by omega) ?_)
      have hb : E t (p + 1) * 31 + (p + 1) < 186 := by omega
      generalize E t (p + 1) * 31 + (p + 1) = e at h3 hb ⊢
      obtain ⟨h4, h5, h6⟩ := h3 k hk
      have hin : vp_in (nI e) 186 := vp_in_nI hb (by decide)
      have hcl : (nI e).toNatClampNeg = e := nI_clamp (by omega)
      refine ⟨hin, ?_⟩
      rw [hcl]
      by_cases z : kB e = nI k
      · rw [h4 z] at hpost
        exact br_t z ⟨hin, hpost⟩
      · by_cases y : kA e = nI k
        · rw [h5 z y] at hpost
          exact br_f z ⟨hin, br_t y ⟨hin, hpost⟩⟩
        · rw [h6 z y] at hpost
          exact br_f z ⟨hin, br_f y (nm_r (pk_m1 p) (ih (by omega) n (by omega) hpost))⟩
theorem pt_valueThen {post : Int32 → Prop} (C : pt_Co c en pr fk E kA vA kB vB pa fo ed vs) {t n k : Nat} (ht : t ≤ c) (hn : n ≤ en t) (hk : k < 8)
    (h : post (pt_V vs t n k)) : wpX_valueThen post (ft, fw, fb, fu, fc, kA, vA, kB, vB, pa, fo, ed, me, mp, di, dp, fi, bl, bb, be, sa, sp) (nI t) (nI n) (nI k) :=
  ⟨n + 1, pt_valueThen_3 C ht hk n hn (n + 1) (by omega) h⟩
end
end
section
section
variable {ft fw fb fu fc : Int32} {kA vA kB vB pa fo ed me mp di dp fi bl bb be sa sp : Nat → Int32}
variable {vs : Nat → Int32} {c : Nat} {en pr fk : Nat → Nat} {E : Nat → Nat → Nat}
theorem pt_apply {post : SX → Prop} {k : Nat} {v x : Int32} (hk : k < 8) (h : post (ft, fw, fb, fu, fc, kA, vA, kB, vB, pa, fo, ed, upd me k v, upd mp k x, di, dp, fi, bl, bb, be, sa, sp)) : wpX_apply post (ft, fw, fb, fu, fc, kA, vA, kB, vB, pa, fo, ed, me, mp, di, dp, fi, bl, bb, be, sa, sp) (nI k) v x := by
  have hin : vp_in (nI k) 8 := vp_in_nI hk (by decide)
  have hcl : (nI k).toNatClampNeg = k := nI_clamp (by omega)
  refine ⟨hin, ?_⟩
  rw [hcl]
  exact nm_e ⟨hin, nm_e h⟩
/-- all changes up to p are done over -/
def pt_Rd (t n p : Nat) (me mp vs : Nat → Int32) : Prop := ∀ k, k < 8 → ∃ q, q ≤ n ∧ mp k = nI q ∧ me k = pt_V vs t q k ∧ (q < p → me k = pt_V vs t p k)
/-- and of p + 1 all but that of the second key -/
def pt_Rm (t n p : Nat) (z : Int32) (me mp vs : Nat → Int32) : Prop := ∀ k, k < 8 → ∃ q, q ≤ n ∧ mp k = nI q ∧ me k = pt_V vs t q k ∧ (q < p + 1 → ¬ z = nI k → me k = pt_V vs t (p + 1) k)
variable {t n p e a b : Nat} {me' mp' : Nat → Int32}
theorem pt_Rd_0 (h : pt_Di t n me mp vs) : pt_Rd t n 0 me mp vs := by
  intro k hk
  obtain ⟨q, h1, h2, h3⟩ := h k hk
  exact ⟨q, h1, h2, h3, fun z => absurd z (Nat.not_lt_zero q)⟩
theorem pt_Rd_n (h : pt_Rd t n n me mp vs) : pt_Me t n me mp vs := by
  refine ⟨fun k hk => ?_, fun k hk => ?_⟩
  · obtain ⟨q, h1, h2, h3, _⟩ := h k hk
    exact ⟨q, h1, h2, h3⟩
  · obtain ⟨q, h1, h2, h3, h4⟩ := h k hk
    rcases Nat.lt_or_ge q n with h5 | h5
    · exact h4 h5
    · have : q = n := by omega
      rw [h3, this]
theorem pt_Rm_k (h : pt_Rd t n p me mp vs) (S : pt_step kA vA kB vB vs t p e) (ha : a < 8) (hA : kA e = nI a) {k : Nat} (hk : k < 8) (hka : k ≠ a) :
    ∃ q, q ≤ n ∧ mp k = nI q ∧ me k = pt_V vs t q k ∧ (q < p + 1 → ¬ kB e = nI k → me k = pt_V vs t (p + 1) k) := by
  obtain ⟨q, hq, h1, h2, h3⟩ := h k hk
  refine ⟨q, hq, h1, h2, fun hqp hB => ?_⟩
  have h4 := (S.2.2 k hk).2.2 hB (by rw [hA]; exact pt_ne a k (Ne.symm hka))
  rw [h4]
  rcases Nat.lt_or_ge q p with h5 | h5
  · exact h3 h5
  · have : q = p := by omega
    rw [h2, this]
theorem pt_Rm_skip (hn : n ≤ 30) (h : pt_Rd t n p me mp vs) (S : pt_step kA vA kB vB vs t p e) (ha : a < 8) (hA : kA e = nI a) (hp : p < n) (hs : nI (p + 1) ≤ mp a) :
    pt_Rm t n p (kB e) me mp vs := by
  intro k hk
  by_cases hka : k = a
  · rw [hka]
    obtain ⟨q, hq, h1, h2, h3⟩ := h a ha
    rw [h1, nI_leI (by omega) (by omega)] at hs
    exact ⟨q, hq, h1, h2, fun z => absurd z (by omega)⟩
  · exact pt_Rm_k h S ha hA hk hka
theorem pt_Rm_upd (h : pt_Rd t n p me mp vs) (S : pt_step kA vA kB vB vs t p e) (ha : a < 8) (hA : kA e = nI a) (hp : p < n)
    (hm : me' a = pt_V vs t (p + 1) a) (hq : mp' a = nI (p + 1)) (ho : ∀ k, k ≠ a → me' k = me k ∧ mp' k = mp k) : pt_Rm t n p (kB e) me' mp' vs := by
  intro k hk
  by_cases hka : k = a
  · rw [hka]
    exact ⟨p + 1, hp, hq, hm, fun z => absurd z (by omega)⟩
  · rw [(ho k hka).1, (ho k hka).2]
    exact pt_Rm_k h S ha hA hk hka
theorem pt_Rd_no (h : pt_Rm t n p (-1) me mp vs) : pt_Rd t n (p + 1) me mp vs := by
  intro k hk
  obtain ⟨q, hq, h1, h2, h3⟩ := h k hk
  exact ⟨q, hq, h1, h2, fun z => h3 z (pt_neg_ne (by omega))⟩
theorem pt_Rd_k (h : pt_Rm t n p (nI b) me mp vs) (hb : b < 8) {k : Nat} (hk : k < 8) (hkb : k ≠ b) :
    ∃ q, q ≤ n ∧ mp k = nI q ∧ me k = pt_V vs t q k ∧ (q < p + 1 → me k = pt_V vs t (p + 1) k) := by
  obtain ⟨q, hq, h1, h2, h3⟩ := h k hk
  exact ⟨q, hq, h1, h2, fun z => h3 z (pt_ne b k (Ne.symm hkb))⟩
theorem pt_Rd_skip (hn : n ≤ 30) (h : pt_Rm t n p (nI b) me mp vs) (hb : b < 8) (hp : p < n) (hs : nI (p + 1) ≤ mp b) : pt_Rd t n (p + 1) me mp vs := by
  intro k hk
  by_cases hkb : k = b
  · rw [hkb]
    obtain ⟨q, hq, h1, h2, h3⟩ := h b hb
    rw [h1, nI_leI (by omega) (by omega)] at hs
    exact ⟨q, hq, h1, h2, fun z => absurd z (by omega)⟩
  · exact pt_Rd_k h hb hk hkb
theorem pt_Rd_upd (h : pt_Rm t n p (nI b) me mp vs) (hb : b < 8) (hp : p < n)
    (hm : me' b = pt_V vs t (p + 1) b) (hq : mp' b = nI (p + 1)) (ho : ∀ k, k ≠ b → me' k = me k ∧ mp' k = mp k) : pt_Rd t n (p + 1) me' mp' vs := by
  intro k hk
  by_cases hkb : k = b
  · rw [hkb]
    exact ⟨p + 1, hp, hq, hm, fun z => absurd z (by omega)⟩
  · rw [(ho k hkb).1, (ho k hkb).2]
    exact pt_Rd_k h hb hk hkb
theorem pt_redo_86 {post : SX → Prop} {J2 : Int32 → Int32 → Int32 → Int32 → Int32 → Int32 → (Nat → Int32) → (Nat → Int32) → (Nat → Int32) → (Nat → Int32) → (Nat → Int32) → (Nat → Int32) → (Nat → Int32) → (Nat → Int32) → (Nat → Int32) → (Nat → Int32) → (Nat → Int32) → (Nat → Int32) → (Nat → Int32) → (Nat → Int32) → (Nat → Int32) → (Nat → Int32) → (Nat → Int32) → Prop}
    (hn : n ≤ 30) (he : e < 186) (S : pt_step kA vA kB vB vs t p e) (hp : p < n) (h : pt_Rm t n p (kB e) me mp vs)
    (J : ∀ me' mp' : Nat → Int32, pt_Rd t n (p + 1) me' mp' vs → J2 (nI (p + 1 + 1)) ft fw fb fu fc kA vA kB vB pa fo ed me' mp' di dp fi bl bb be sa sp) :
    wX_redo_86 post J2 (nI t) (nI n) (nI (p + 1)) (nI e) ft fw fb fu fc kA vA kB vB pa fo ed me mp di dp fi bl bb be sa sp := by
  have hin : vp_in (nI e) 186 := vp_in_nI he (by decide)
  have hcl : (nI e).toNatClampNeg = e := nI_clamp (by omega)
  unfold wX_redo_86
  refine ⟨hin, ?_⟩
  rw [hcl]
  rcases S.2.1 with hB | ⟨b, hb, hB⟩
  · rw [hB] at h
    refine br_t ?_ (nm_r (nI_1 (p + 1)) (J me mp (pt_Rd_no h)))
    rw [hB]
    exact pt_neg1
  · have hVb := (S.2.2 b hb).1 hB
    rw [hB] at h
    rw [hB]
    refine br_f (nI_pos (by omega)) ⟨hin, vp_in_nI hb (by decide), ?_⟩
    rw [nI_clamp (by omega : b < 2 ^ 31)]
    refine br_c (fun hs => ?_) (fun hs => ?_)
    · exact nm_r (nI_1 (p + 1)) (J me mp (pt_Rd_skip hn h hb hp hs))
    · refine ⟨hin, hin, pt_apply hb (nm_r (nI_1 (p + 1)) (J _ _ (pt_Rd_upd h hb hp ?_ ?_ ?_)))⟩
      · exact pk_us.trans hVb.symm
      · exact pk_us
      · intro k hk
        exact ⟨pk_un hk, pk_un hk⟩
end
section
variable {ft fw fb fu fc : Int32} {kA vA kB vB pa fo ed me mp di dp fi bl bb be sa sp : Nat → Int32}
variable {vs : Nat → Int32} {c : Nat} {en pr fk : Nat → Nat} {E : Nat → Nat → Nat} {t n : Nat}
theorem pt_redo_2 {post : SX → Prop} (C : pt_Co c en pr fk E kA vA kB vB pa fo ed vs) (ht : t ≤ c) (hn : n ≤ en t)
    (K : ∀ me' mp' : Nat → Int32, pt_Me t n me' mp' vs → post (ft, fw, fb, fu, fc, kA, vA, kB, vB, pa, fo, ed, me', mp', di, dp, fi, bl, bb, be, sa, sp)) :
    ∀ d p : Nat, p + d = n → ∀ me mp : Nat → Int32, pt_Rd t n p me mp vs → ∀ f : Nat, d < f → wX_redo_2 post (nI t) (nI n) f (nI (p + 1)) ft fw fb fu fc kA vA kB vB pa fo ed me mp di dp fi bl bb be sa sp := by
  obtain ⟨hE, hP, hO, hL0, hL⟩ := C
  have hc := hE.1
  have h30 := (hE.2.2 t ht).1
  intro d
  induction d with
  | zero =>
    intro p hp me mp h f hf
    cases f with
    | zero => omega
    | succ f =>
      have hpn : p = n := by omega
      rw [hpn] at h ⊢
      exact br_t (nI_lt (by omega) (by omega)) (K me mp (pt_Rd_n h))
  | succ d ih =>
    intro p hp me mp h f hf
    cases f with
    | zero => omega
    | succ f =>
      have S := hL t p ht (by omega)
      have hle := (hO t ht (p + 1)).1
      have hb : E t (p + 1) * 31 + (p + 1) < 186 := by omega
      refine br_f (nI_nlt (by omega) (by omega)) (pt_entry hE hP hO ht (by omega) (by omega) ?_)
      generalize E t (p + 1) * 31 + (p + 1) = e at S hb ⊢
      have hJ : ∀ me' mp' : Nat → Int32, pt_Rd t n (p + 1) me' mp' vs → wX_redo_2 post (nI t) (nI n) f (nI (p + 1 + 1)) ft fw fb fu fc kA vA kB vB pa fo ed me' mp' di dp fi bl bb be sa sp :=
        fun me' mp' h' => ih (p + 1) (by omega) me' mp' h' f (by omega)
      have hin : vp_in (nI e) 186 := vp_in_nI hb (by decide)
      have hcl : (nI e).toNatClampNeg = e := nI_clamp (by omega)
      obtain ⟨a, ha, hA⟩ := S.1
      refine ⟨hin, ?_⟩
      rw [hcl, hA]
      refine ⟨vp_in_nI ha (by decide), ?_⟩
      rw [nI_clamp (by omega : a < 2 ^ 31)]
      refine br_c (fun hs => ?_) (fun hs => ?_)
      · exact pt_redo_86 (by omega) hb S (by omega) (pt_Rm_skip (by omega) h S ha hA (by omega) hs) hJ
      · refine ⟨hin, hin, pt_apply ha ⟨hin, hin, ?_⟩⟩
        dsimp only
        refine br_c (fun hz => ?_) (fun hz => ?_)
        · have hBa : kB e = nI a := hz.trans hA
          refine ⟨hin, hin, ?_⟩
          rw [hBa]
          refine pt_apply ha (pt_redo_86 (by omega) hb S (by omega) (pt_Rm_upd h S ha hA (by omega) ?_ ?_ ?_) hJ)
          · exact pk_us.trans ((S.2.2 a ha).1 hBa).symm
          · exact pk_us
          · intro k hk
            exact ⟨(pk_un hk).trans (pk_un hk), (pk_un hk).trans (pk_un hk)⟩
        · have hBa : ¬ kB e = nI a := fun z => hz (z.trans hA.symm)
          refine pt_redo_86 (by omega) hb S (by omega) (pt_Rm_upd h S ha hA (by omega) ?_ ?_ ?_) hJ
          · exact pk_us.trans ((S.2.2 a ha).2.1 hBa hA).symm
          · exact pk_us
          · intro k hk
            exact ⟨pk_un hk, pk_un hk⟩
theorem pt_redo {post : SX → Prop} (C : pt_Co c en pr fk E kA vA kB vB pa fo ed vs) (ht : t ≤ c) (hn : n ≤ en t) (h : pt_Di t n me mp vs)
    (K : ∀ me' mp' : Nat → Int32, pt_Me t n me' mp' vs → post (ft, fw, fb, fu, fc, kA, vA, kB, vB, pa, fo, ed, me', mp', di, dp, fi, bl, bb, be, sa, sp)) : wpX_redo post (ft, fw, fb, fu, fc, kA, vA, kB, vB, pa, fo, ed, me, mp, di, dp, fi, bl, bb, be, sa, sp) (nI t) (nI n) :=
  ⟨n + 1, pt_redo_2 C ht hn K n 0 (Nat.zero_add n) me mp (pt_Rd_0 h) (n + 1) (Nat.lt_succ_self n)⟩
end
end
section
section
variable {ft fw fb fu fc : Int32} {kA vA kB vB pa fo ed me mp di dp fi bl bb be sa sp : Nat → Int32}
variable {vs : Nat → Int32} {c : Nat} {en pr fk : Nat → Nat} {E : Nat → Nat → Nat}
/-! X: a change -/
theorem pt_xch_full {post : Int32 → SX → Prop} {p0 p1 p2 p3 : Int32} (hc : c ≤ 5) (he : ed c = nI 30) (h : post (-2) (ft, nI c, fb, fu, fc, kA, vA, kB, vB, pa, fo, ed, me, mp, di, dp, fi, bl, bb, be, sa, sp)) :
    wpX_change post (ft, nI c, fb, fu, fc, kA, vA, kB, vB, pa, fo, ed, me, mp, di, dp, fi, bl, bb, be, sa, sp) p0 p1 p2 p3 := by
  have hin : vp_in (nI c) 6 := vp_in_nI (by omega) (by decide)
  have hcl : (nI c).toNatClampNeg = c := nI_clamp (by omega)
  refine ⟨hin, br_t ?_ h⟩
  rw [hcl, he]
  rfl
theorem pt_xch_1 {post : Int32 → SX → Prop} {k e : Nat} {v w : Int32} (hc : c ≤ 5) (hk : k < 8) (he : ed c = nI e) (he3 : e < 30)
    (h : post (nI (e + 1)) (ft, nI c, fb, fu, fc, upd kA (c * 31 + (e + 1)) (nI k), upd vA (c * 31 + (e + 1)) v, upd kB (c * 31 + (e + 1)) (-1), upd vB (c * 31 + (e + 1)) w, pa, fo, upd ed c (nI (e + 1)), upd me k v, upd mp k (nI (e + 1)), di, dp, fi, bl, bb, be, sa, sp)) :
    wpX_change post (ft, nI c, fb, fu, fc, kA, vA, kB, vB, pa, fo, ed, me, mp, di, dp, fi, bl, bb, be, sa, sp) (nI k) v (-1) w := by
  have hin : vp_in (nI c) 6 := vp_in_nI (by omega) (by decide)
  have hcl : (nI c).toNatClampNeg = c := nI_clamp (by omega)
  have hi2 : vp_in (nI (c * 31 + (e + 1))) 186 := vp_in_nI (by omega) (by decide)
  have hc2 : (nI (c * 31 + (e + 1))).toNatClampNeg = c * 31 + (e + 1) := nI_clamp (by omega)
  unfold wpX_change
  refine ⟨hin, br_f ?_ ⟨hin, hin, ?_⟩⟩
  · rw [hcl, he]
    exact pt_ne e 30 (by omega)
  rw [hcl, he, nI_1]
  refine nm_e ⟨hin, nm_r pk_us (nm_r (pt_i31 c (e + 1)) ⟨hi2, ?_⟩)⟩
  rw [hc2]
  refine nm_e ⟨hi2, nm_e ⟨hi2, nm_e ⟨hi2, nm_e (pt_apply hk ?_)⟩⟩⟩
  exact br_t pt_neg1 h
theorem pt_xch_2 {post : Int32 → SX → Prop} {k l e : Nat} {v w : Int32} (hc : c ≤ 5) (hk : k < 8) (hl : l < 8) (he : ed c = nI e) (he3 : e < 30)
    (h : post (nI (e + 1)) (ft, nI c, fb, fu, fc, upd kA (c * 31 + (e + 1)) (nI k), upd vA (c * 31 + (e + 1)) v, upd kB (c * 31 + (e + 1)) (nI l), upd vB (c * 31 + (e + 1)) w, pa, fo, upd ed c (nI (e + 1)), upd (upd me k v) l w, upd (upd mp k (nI (e + 1))) l (nI (e + 1)), di, dp, fi, bl, bb, be, sa, sp)) :
    wpX_change post (ft, nI c, fb, fu, fc, kA, vA, kB, vB, pa, fo, ed, me, mp, di, dp, fi, bl, bb, be, sa, sp) (nI k) v (nI l) w := by
  have hin : vp_in (nI c) 6 := vp_in_nI (by omega) (by decide)
  have hcl : (nI c).toNatClampNeg = c := nI_clamp (by omega)
  have hi2 : vp_in (nI (c * 31 + (e + 1))) 186 := vp_in_nI (by omega) (by decide)
  have hc2 : (nI (c * 31 + (e + 1))).toNatClampNeg = c * 31 + (e + 1) := nI_clamp (by omega)
  unfold wpX_change
  refine ⟨hin, br_f ?_ ⟨hin, hin, ?_⟩⟩
  · rw [hcl, he]
    exact pt_ne e 30 (by omega)
  rw [hcl, he, nI_1]
  refine nm_e ⟨hin, nm_r pk_us (nm_r (pt_i31 c (e + 1)) ⟨hi2, ?_⟩)⟩
  rw [hc2]
  refine nm_e ⟨hi2, nm_e ⟨hi2, nm_e ⟨hi2, nm_e (pt_apply hk ?_)⟩⟩⟩
  exact br_f (nI_pos (by omega)) (pt_apply hl h)
end
section
variable {vs : Nat → Int32} {c : Nat} {ed : Nat → Int32}
/-! the reference -/
theorem pt_ynow {post : Int32 → Prop} {e : Nat} (hc : c ≤ 5) (he : ed c = nI e) (h : post (nI (248 * c + 8 * e))) : wpY_now post (nI (c + 1), vs, ed) := by
  unfold wpY_now
  refine nm_r (pt_m1 c) ⟨vp_in_nI (by omega) (by decide), ?_⟩
  rw [nI_clamp (by omega), he, pt_i248]
  exact h
theorem pt_ypoint {post : Int32 → Prop} {e : Nat} (hc : c ≤ 5) (he : ed c = nI e) (h : post (nI e)) : wpY_point post (nI (c + 1), vs, ed) := by
  unfold wpY_point
  dsimp only
  rw [pt_m1, nI_clamp (by omega), he]
  exact ⟨vp_in_nI (by omega) (by decide), h⟩
/-- vs' is vs, but that point e + 1 of timeline c has its first i values from point e -/
def pt_cp (vs vs' : Nat → Int32) (c e i : Nat) : Prop :=
  (∀ k, k < i → vs' (248 * c + 8 * e + 8 + k) = vs (248 * c + 8 * e + k)) ∧ ∀ j, (j < 248 * c + 8 * e + 8 ∨ 248 * c + 8 * e + 16 ≤ j) → vs' j = vs j
theorem pt_goOn_7 {post : SY → Prop} {e : Nat} (hc : c ≤ 5) (he : ed c = nI e) (he3 : e < 30)
    (K : ∀ vs', pt_cp vs vs' c e 8 → post (nI (c + 1), vs', upd ed c (nI (e + 1)))) :
    ∀ d i : Nat, i + d = 8 → ∀ vs', pt_cp vs vs' c e i → ∀ f : Nat, d < f → wY_goOn_7 post (nI (248 * c + 8 * e)) (nI (c + 1)) f (nI i) vs' ed := by
  intro d
  induction d with
  | zero =>
    intro i hi vs' h f hf
    cases f with
    | zero => omega
    | succ f =>
      have hi8 : i = 8 := by omega
      rw [hi8] at h ⊢
      unfold wY_goOn_7
      rw [pt_m1, nI_clamp (by omega), he, nI_1]
      have hin : vp_in (nI c) 6 := vp_in_nI (by omega) (by decide)
      exact br_t (Int32.le_refl _) ⟨hin, hin, nm_e (K vs' h)⟩
  | succ d ih =>
    intro i hi vs' h f hf
    cases f with
    | zero => omega
    | succ f =>
      have e1 : nI (248 * c + 8 * e) + nI i = nI (248 * c + 8 * e + i) := nI_add _ _
      have e2 : nI (248 * c + 8 * e) + 8 + nI i = nI (248 * c + 8 * e + 8 + i) := by
        rw [show (8 : Int32) = nI 8 from rfl, nI_add, nI_add]
      unfold wY_goOn_7
      rw [e1, e2, nI_clamp (by omega), nI_clamp (by omega)]
      refine br_f (nI_ge (b := 8) (by omega) (by decide)) ⟨vp_in_nI (by omega) (by decide), vp_in_nI (by omega) (by decide), nm_e (nm_r (nI_1 i) (ih (i + 1) (by omega) _ ?_ f (by omega)))⟩
      refine ⟨fun k hk => ?_, fun j hj => ?_⟩
      · by_cases hki : k = i
        · rw [hki, pk_us]
          exact h.2 _ (Or.inl (by omega))
        · rw [pk_un (by omega)]
          exact h.1 k (by omega)
      · rw [pk_un (by omega)]
        exact h.2 j hj
theorem pt_goOn {post : SY → Prop} {e : Nat} (hc : c ≤ 5) (he : ed c = nI e) (he3 : e < 30)
    (K : ∀ vs', pt_cp vs vs' c e 8 → post (nI (c + 1), vs', upd ed c (nI (e + 1)))) : wpY_goOn post (nI (c + 1), vs, ed) := by
  unfold wpY_goOn
  refine pt_ynow hc he ⟨9, pt_goOn_7 hc he he3 K 8 0 rfl vs ⟨fun k hk => absurd hk (Nat.not_lt_zero k), fun j _ => rfl⟩ 9 (by omega)⟩
/-- vs' is vs, but that point e + 1 of timeline c is made out of point e by kk := x, ll := y -/
def pt_nw (vs vs' : Nat → Int32) (c e : Nat) (kk x ll y : Int32) : Prop :=
  (∀ k, k < 8 → (ll = nI k → pt_V vs' c (e + 1) k = y) ∧ (¬ ll = nI k → kk = nI k → pt_V vs' c (e + 1) k = x) ∧ (¬ ll = nI k → ¬ kk = nI k → pt_V vs' c (e + 1) k = pt_V vs c e k)) ∧
  ∀ j, (j < 248 * c + 8 * e + 8 ∨ 248 * c + 8 * e + 16 ≤ j) → vs' j = vs j
theorem pt_yset_bad {post : Int32 → SY → Prop} {x v : Int32} {gt : Int32} (hx : x < 0 ∨ nI 8 ≤ x) (h : post (-1) (gt, vs, ed)) : wpY_set post (gt, vs, ed) x v := by
  unfold wpY_set
  exact pt_ykey_no hx (br_t rfl h)
theorem pt_yset_full {post : Int32 → SY → Prop} {k : Nat} {v : Int32} (hk : k < 8) (hc : c ≤ 5) (he : ed c = nI 30) (h : post (-2) (nI (c + 1), vs, ed)) :
    wpY_set post (nI (c + 1), vs, ed) (nI k) v := by
  unfold wpY_set
  refine pt_ykey_ok hk (br_f (by decide) ?_)
  refine pt_ypoint hc he (br_t rfl h)
theorem pt_yset_ok {post : Int32 → SY → Prop} {k e : Nat} {v w : Int32} (hk : k < 8) (hc : c ≤ 5) (he : ed c = nI e) (he3 : e < 30)
    (h : ∀ vs', pt_nw vs vs' c e (nI k) v (-1) w → post (nI (e + 1)) (nI (c + 1), vs', upd ed c (nI (e + 1)))) :
    wpY_set post (nI (c + 1), vs, ed) (nI k) v := by
  unfold wpY_set
  refine pt_ykey_ok hk (br_f (by decide) ?_)
  refine pt_ypoint hc he (br_f (pt_ne e 30 (by omega)) ?_)
  refine pt_goOn hc he he3 fun vs' hcp => ?_
  refine pt_ynow (e := e + 1) hc pk_us ?_
  rw [nI_add, nI_clamp (by omega)]
  refine ⟨vp_in_nI (by omega) (by decide), nm_e (pt_ypoint hc pk_us (h _ ?_))⟩
  refine ⟨fun j hj => ⟨fun z => absurd z (pt_neg_ne (by omega)), fun _ z => ?_, fun _ z => ?_⟩, fun j hj => ?_⟩
  · have hkj : k = j := (nI_eq (by omega) (by omega)).mp z
    rw [← hkj]
    exact pk_us
  · have hkj : k ≠ j := fun y => z (congrArg nI y)
    have h1 : upd vs' (248 * c + 8 * (e + 1) + k) v (248 * c + 8 * (e + 1) + j) = vs' (248 * c + 8 * (e + 1) + j) := pk_un (by omega)
    refine h1.trans ?_
    have h2 := hcp.1 j hj
    rw [show 248 * c + 8 * e + 8 + j = 248 * c + 8 * (e + 1) + j from by omega] at h2
    exact h2
  · rw [pk_un (by omega)]
    exact hcp.2 j hj
theorem pt_yex_bad {post : Int32 → SY → Prop} {x y : Int32} {gt : Int32} (hx : (x < 0 ∨ nI 8 ≤ x) ∨ (y < 0 ∨ nI 8 ≤ y)) (h : post (-1) (gt, vs, ed)) : wpY_exchange post (gt, vs, ed) x y := by
  unfold wpY_exchange
  rcases pk_ix x (n := 8) (by decide) with z | z | ⟨j, hj, rfl⟩
  · exact pt_ykey_no (Or.inl z) (br_t rfl h)
  · exact pt_ykey_no (Or.inr z) (br_t rfl h)
  · have hy : y < 0 ∨ nI 8 ≤ y := by
      rcases hx with (z | z) | z
      · exact absurd z (nI_pos (by omega))
      · exact absurd z (nI_ge hj (by decide))
      · exact z
    exact pt_ykey_ok hj (br_f (by decide) (pt_ykey_no hy (br_t rfl h)))
theorem pt_yex_full {post : Int32 → SY → Prop} {k l : Nat} (hk : k < 8) (hl : l < 8) (hc : c ≤ 5) (he : ed c = nI 30) (h : post (-2) (nI (c + 1), vs, ed)) :
    wpY_exchange post (nI (c + 1), vs, ed) (nI k) (nI l) := by
  unfold wpY_exchange
  refine pt_ykey_ok hk (br_f (by decide) ?_)
  refine pt_ykey_ok hl (br_f (by decide) ?_)
  refine pt_ypoint hc he (br_t rfl h)
theorem pt_yex_ok {post : Int32 → SY → Prop} {k l e : Nat} (hk : k < 8) (hl : l < 8) (hc : c ≤ 5) (he : ed c = nI e) (he3 : e < 30)
    (h : ∀ vs', pt_nw vs vs' c e (nI k) (pt_V vs c e l) (nI l) (pt_V vs c e k) → post (nI (e + 1)) (nI (c + 1), vs', upd ed c (nI (e + 1)))) :
    wpY_exchange post (nI (c + 1), vs, ed) (nI k) (nI l) := by
  unfold wpY_exchange
  refine pt_ykey_ok hk (br_f (by decide) ?_)
  refine pt_ykey_ok hl (br_f (by decide) ?_)
  refine pt_ypoint hc he (br_f (pt_ne e 30 (by omega)) ?_)
  refine pt_goOn hc he he3 fun vs' hcp => ?_
  refine pt_ynow (e := e + 1) hc pk_us ?_
  have hq : ∀ j, j < 8 → vs' (248 * c + 8 * (e + 1) + j) = pt_V vs c e j := by
    intro j hj
    have h2 := hcp.1 j hj
    rw [show 248 * c + 8 * e + 8 + j = 248 * c + 8 * (e + 1) + j from by omega] at h2
    exact h2
  have hik : vp_in (nI (248 * c + 8 * (e + 1) + k)) 1488 := vp_in_nI (by omega) (by decide)
  have hil : vp_in (nI (248 * c + 8 * (e + 1) + l)) 1488 := vp_in_nI (by omega) (by decide)
  rw [nI_add, nI_add, nI_clamp (by omega), nI_clamp (by omega), hq k hk, hq l hl]
  refine ⟨hik, nm_e ⟨hil, hik, nm_e ⟨hil, nm_e (pt_ypoint hc pk_us (h _ ?_))⟩⟩⟩
  refine ⟨fun j hj => ⟨fun z => ?_, fun y z => ?_, fun y z => ?_⟩, fun j hj => ?_⟩
  · have hkj : l = j := (nI_eq (by omega) (by omega)).mp z
    rw [← hkj]
    exact pk_us
  · have hkj : k = j := (nI_eq (by omega) (by omega)).mp z
    have hlj : l ≠ j := fun y' => y (congrArg nI y')
    rw [hkj]
    exact (pk_un (by omega)).trans pk_us
  · have hkj : k ≠ j := fun y' => z (congrArg nI y')
    have hlj : l ≠ j := fun y' => y (congrArg nI y')
    exact ((pk_un (by omega)).trans (pk_un (by omega))).trans (hq j hj)
  · exact ((pk_un (by omega)).trans (pk_un (by omega))).trans (hcp.2 j hj)
end
end
section
section
variable {ft fw fb fu fc : Int32} {kA vA kB vB pa fo ed me mp di dp fi bl bb be sa sp : Nat → Int32}
variable {vs vs' : Nat → Int32} {c e nb : Nat} {en pr fk : Nat → Nat} {E : Nat → Nat → Nat} {me' mp' : Nat → Int32} {kk x ll y : Int32}
/-- the ends behind a change -/
def pt_en (en : Nat → Nat) (c e : Nat) : Nat → Nat := fun t => if t = c then e else en t
theorem pt_en_c (en : Nat → Nat) (c e : Nat) : pt_en en c e c = e := if_pos rfl
theorem pt_en_n {en : Nat → Nat} {c e t : Nat} (h : t ≠ c) : pt_en en c e t = en t := if_neg h
theorem pt_nw_ag (hE : pt_En c en fk fo ed) (he : en c = e) (h : pt_nw vs vs' c e kk x ll y) : pt_Ag c en vs vs' := by
  intro l p k hl hp hk
  have h30 := (hE.2.2 l hl).1
  refine h.2 _ (Or.inl ?_)
  rcases Nat.lt_or_ge l c with h1 | h1
  · omega
  · have h2 : l = c := by omega
    rw [h2] at hp ⊢
    omega
theorem pt_nw_En (hE : pt_En c en fk fo ed) (he : en c = e) (he3 : e < 30) : pt_En c (pt_en en c (e + 1)) fk fo (upd ed c (nI (e + 1))) := by
  obtain ⟨h1, h2, h3⟩ := hE
  refine ⟨h1, h2, fun t ht => ?_⟩
  obtain ⟨h4, h5, h6, h7⟩ := h3 t ht
  by_cases hc : t = c
  · rw [hc] at h7 h6 ⊢
    rw [pt_en_c, pk_us]
    exact ⟨he3, rfl, h6, by omega⟩
  · rw [pt_en_n hc, pk_un hc]
    exact ⟨h4, h5, h6, h7⟩
theorem pt_nw_Pa (hE : pt_En c en fk fo ed) (he : en c = e) (hP : pt_Pa c pr fk pa vs) (h : pt_nw vs vs' c e kk x ll y) : pt_Pa c pr fk pa vs' := by
  refine ⟨hP.1, fun t h0 ht => ?_⟩
  obtain ⟨h1, h2, h3⟩ := hP.2 t h0 ht
  refine ⟨h1, h2, fun q k hq hk => ?_⟩
  obtain ⟨h4, h5, h6, h7⟩ := hE.2.2 t ht
  have e1 : pt_V vs' t q k = pt_V vs t q k := pt_nw_ag hE he h t q k ht (by omega) hk
  have e2 : pt_V vs' (pr t) q k = pt_V vs (pr t) q k := h.2 _ (Or.inl (by omega))
  rw [e1, e2]
  exact h3 q k hq hk
theorem pt_nw_Lg (hE : pt_En c en fk fo ed) (he : en c = e) (he3 : e < 30) (hO : pt_E c pr fk E) (hL : pt_Lg c en E kA vA kB vB vs) (h : pt_nw vs vs' c e kk x ll y)
    (hk : ∃ a, a < 8 ∧ kk = nI a) (hl : ll = -1 ∨ ∃ b, b < 8 ∧ ll = nI b) :
    pt_Lg c (pt_en en c (e + 1)) E (upd kA (c * 31 + (e + 1)) kk) (upd vA (c * 31 + (e + 1)) x) (upd kB (c * 31 + (e + 1)) ll) (upd vB (c * 31 + (e + 1)) y) vs' := by
  have hag := pt_nw_ag hE he h
  refine ⟨fun t k ht hk => ?_, fun t p ht hp => ?_⟩
  · rw [hag t 0 k ht (Nat.zero_le _) hk]
    exact hL.1 t k ht hk
  · have h30 := (hE.2.2 t ht).1
    have hfk := (hE.2.2 t ht).2.2.2
    obtain ⟨hO1, hO2, hO3⟩ := hO t ht (p + 1)
    by_cases hnew : t = c ∧ p = e
    · obtain ⟨h1, h2⟩ := hnew
      rw [hO2 (by rw [h1] at hfk ⊢; omega), h1, h2]
      unfold pt_step
      rw [pk_us, pk_us, pk_us, pk_us]
      refine ⟨hk, hl, fun j hj => ?_⟩
      rw [hag c e j (Nat.le_refl c) (by omega) hj]
      exact h.1 j hj
    · have hpe : p < en t := by
        by_cases h1 : t = c
        · rw [h1, pt_en_c] at hp
          rw [h1]
          omega
        · rw [pt_en_n h1] at hp
          exact hp
      have hne : E t (p + 1) * 31 + (p + 1) ≠ c * 31 + (e + 1) := by
        rcases Nat.lt_or_ge t c with h1 | h1
        · omega
        · have h2 : t = c := by omega
          rw [h2] at hpe hO1 ⊢
          omega
      obtain ⟨s1, s2, s3⟩ := hL.2 t p ht hpe
      unfold pt_step
      rw [pk_un hne, pk_un hne, pk_un hne, pk_un hne]
      refine ⟨s1, s2, fun j hj => ?_⟩
      rw [hag t p j ht (by omega) hj, hag t (p + 1) j ht (by omega) hj]
      exact s3 j hj
theorem pt_R_change (C : pt_Co c en pr fk E kA vA kB vB pa fo ed vs) (M : pt_Me c (en c) me mp vs) (D : pt_Di c (en c) di dp vs)
    (B : pt_Ba c en fi bl be sa sp vs) (U : pt_Uw c en nb fu fc fi bl sa sp vs) (hnb : nb < 4)
    (he : en c = e) (he3 : e < 30) (h : pt_nw vs vs' c e kk x ll y)
    (hk : ∃ a, a < 8 ∧ kk = nI a) (hl : ll = -1 ∨ ∃ b, b < 8 ∧ ll = nI b)
    (hM : ∀ j, j < 8 → (ll = nI j → me' j = y ∧ mp' j = nI (e + 1)) ∧ (¬ ll = nI j → kk = nI j → me' j = x ∧ mp' j = nI (e + 1)) ∧ (¬ ll = nI j → ¬ kk = nI j → me' j = me j ∧ mp' j = mp j)) :
    pt_R (nI (c + 1)) (nI c) (nI nb) fu fc (upd kA (c * 31 + (e + 1)) kk) (upd vA (c * 31 + (e + 1)) x) (upd kB (c * 31 + (e + 1)) ll) (upd vB (c * 31 + (e + 1)) y) pa fo (upd ed c (nI (e + 1))) me' mp' di dp fi bl bb be sa sp (nI (c + 1)) vs' (upd ed c (nI (e + 1))) := by
  obtain ⟨hE, hP, hO, hL⟩ := C
  have hag := pt_nw_ag hE he h
  refine ⟨c, pt_en en c (e + 1), pr, fk, E, nb, rfl, rfl, rfl, hnb, rfl, rfl, ⟨pt_nw_En hE he he3, pt_nw_Pa hE he hP h, hO, pt_nw_Lg hE he he3 hO hL h hk hl⟩, ?_, ?_, ?_, ?_⟩
  · rw [pt_en_c]
    have hall : ∀ j, j < 8 → pt_cell vs' c (e + 1) j (me' j) (mp' j) ∧ me' j = pt_V vs' c (e + 1) j := by
      intro j hj
      obtain ⟨a1, a2, a3⟩ := hM j hj
      obtain ⟨b1, b2, b3⟩ := h.1 j hj
      by_cases z : ll = nI j
      · obtain ⟨a4, a5⟩ := a1 z
        have a6 := a4.trans (b1 z).symm
        exact ⟨⟨e + 1, Nat.le_refl _, a5, a6⟩, a6⟩
      · by_cases w : kk = nI j
        · obtain ⟨a4, a5⟩ := a2 z w
          have a6 := a4.trans (b2 z w).symm
          exact ⟨⟨e + 1, Nat.le_refl _, a5, a6⟩, a6⟩
        · obtain ⟨a4, a5⟩ := a3 z w
          rw [a4, a5, b3 z w]
          have m1 := M.2 j hj
          rw [he] at m1
          refine ⟨pt_cell_mono (pt_cell_tr (M.1 j hj) fun p hp => hag c p j (Nat.le_refl c) hp hj) (by omega), m1⟩
    exact ⟨fun j hj => (hall j hj).1, fun j hj => (hall j hj).2⟩
  · rw [pt_en_c]
    exact pt_Di_mono (pt_Di_ag D (Nat.le_refl c) hag) (by omega)
  · intro b hb hf
    obtain ⟨l, e', h1, h2, h3, h4, h5⟩ := B b hb hf
    refine ⟨l, e', h1, ?_, h3, h4, pt_Sl_ag h5 (Nat.le_refl 8) h1 h2 hag⟩
    by_cases hlc : l = c
    · rw [hlc] at h2 ⊢
      rw [pt_en_c]
      omega
    · rw [pt_en_n hlc]
      exact h2
  · intro hu
    obtain ⟨m, h1, h2, h3, h4, h5⟩ := U hu
    rw [pt_en_c]
    exact ⟨m, h1, h2, h3, h4, pt_Sl_mono (pt_Sl_ag h5 (by omega) (Nat.le_refl c) (Nat.le_refl _) hag) (by omega)⟩
end
end
section
section
variable {ft fw fb fu fc : Int32} {kA vA kB vB pa fo ed me mp di dp fi bl bb be sa sp : Nat → Int32}
variable {c nb : Nat} {en pr fk : Nat → Nat} {E : Nat → Nat → Nat} {vs : Nat → Int32}
theorem pt_xset_bad {post : Int32 → SX → Prop} {x v : Int32} (hx : x < 0 ∨ nI 8 ≤ x) (h : post (-1) (ft, fw, fb, fu, fc, kA, vA, kB, vB, pa, fo, ed, me, mp, di, dp, fi, bl, bb, be, sa, sp)) : wpX_set post (ft, fw, fb, fu, fc, kA, vA, kB, vB, pa, fo, ed, me, mp, di, dp, fi, bl, bb, be, sa, sp) x v := by
  unfold wpX_set
  exact pt_xbad_no hx (br_f (by decide) h)
theorem pt_xset_ch {post : Int32 → SX → Prop} {k : Nat} {v : Int32} (hk : k < 8) (h : wpX_change post (ft, fw, fb, fu, fc, kA, vA, kB, vB, pa, fo, ed, me, mp, di, dp, fi, bl, bb, be, sa, sp) (nI k) v (-1) 0) : wpX_set post (ft, fw, fb, fu, fc, kA, vA, kB, vB, pa, fo, ed, me, mp, di, dp, fi, bl, bb, be, sa, sp) (nI k) v := by
  unfold wpX_set
  exact pt_xbad_ok hk (br_t rfl h)
theorem pt_xadd_bad {post : Int32 → SX → Prop} {x v : Int32} (hx : x < 0 ∨ nI 8 ≤ x) (h : post (-1) (ft, fw, fb, fu, fc, kA, vA, kB, vB, pa, fo, ed, me, mp, di, dp, fi, bl, bb, be, sa, sp)) : wpX_add post (ft, fw, fb, fu, fc, kA, vA, kB, vB, pa, fo, ed, me, mp, di, dp, fi, bl, bb, be, sa, sp) x v := by
  unfold wpX_add
  exact pt_xbad_no hx (br_f (by decide) h)
theorem pt_xadd_ch {post : Int32 → SX → Prop} {k : Nat} {v : Int32} (hk : k < 8) (h : wpX_change post (ft, fw, fb, fu, fc, kA, vA, kB, vB, pa, fo, ed, me, mp, di, dp, fi, bl, bb, be, sa, sp) (nI k) (me k + v) (-1) 0) : wpX_add post (ft, fw, fb, fu, fc, kA, vA, kB, vB, pa, fo, ed, me, mp, di, dp, fi, bl, bb, be, sa, sp) (nI k) v := by
  unfold wpX_add
  refine pt_xbad_ok hk (br_t rfl ⟨vp_in_nI hk (by decide), ?_⟩)
  rw [nI_clamp (by omega)]
  exact h
theorem pt_xex_bad {post : Int32 → SX → Prop} {x y : Int32} (hx : (x < 0 ∨ nI 8 ≤ x) ∨ (y < 0 ∨ nI 8 ≤ y)) (h : post (-1) (ft, fw, fb, fu, fc, kA, vA, kB, vB, pa, fo, ed, me, mp, di, dp, fi, bl, bb, be, sa, sp)) : wpX_exchange post (ft, fw, fb, fu, fc, kA, vA, kB, vB, pa, fo, ed, me, mp, di, dp, fi, bl, bb, be, sa, sp) x y := by
  unfold wpX_exchange
  rcases pk_ix x (n := 8) (by decide) with z | z | ⟨j, hj, rfl⟩
  · exact pt_xbad_no (Or.inl z) (br_f (by decide) h)
  · exact pt_xbad_no (Or.inr z) (br_f (by decide) h)
  · have hy : y < 0 ∨ nI 8 ≤ y := by
      rcases hx with (z | z) | z
      · exact absurd z (nI_pos (by omega))
      · exact absurd z (nI_ge hj (by decide))
      · exact z
    exact pt_xbad_ok hj (br_t rfl (pt_xbad_no hy (br_f (by decide) h)))
theorem pt_xex_ch {post : Int32 → SX → Prop} {k l : Nat} (hk : k < 8) (hl : l < 8) (h : wpX_change post (ft, fw, fb, fu, fc, kA, vA, kB, vB, pa, fo, ed, me, mp, di, dp, fi, bl, bb, be, sa, sp) (nI k) (me l) (nI l) (me k)) : wpX_exchange post (ft, fw, fb, fu, fc, kA, vA, kB, vB, pa, fo, ed, me, mp, di, dp, fi, bl, bb, be, sa, sp) (nI k) (nI l) := by
  unfold wpX_exchange
  refine pt_xbad_ok hk (br_t rfl ?_)
  refine pt_xbad_ok hl (br_t rfl ⟨vp_in_nI hl (by decide), vp_in_nI hk (by decide), ?_⟩)
  rw [nI_clamp (by omega), nI_clamp (by omega)]
  exact h
/-- a change of one key, both sides -/
theorem pt_both_1 {k j : Nat} {v : Int32} (Yw : (Int32 → SY → Prop) → Prop) (hY : ∀ post, wpY_set post (nI (c + 1), vs, ed) (nI j) v → Yw post)
    (R : pt_R (nI (c + 1)) (nI c) (nI nb) fu fc kA vA kB vB pa fo ed me mp di dp fi bl bb be sa sp (nI (c + 1)) vs ed)
    (C : pt_Co c en pr fk E kA vA kB vB pa fo ed vs) (M : pt_Me c (en c) me mp vs) (D : pt_Di c (en c) di dp vs)
    (B : pt_Ba c en fi bl be sa sp vs) (U : pt_Uw c en nb fu fc fi bl sa sp vs) (hnb : nb < 4) (hj : j < 8) :
    wpX_change (fun r u' => Yw (fun r' v' => r' = r ∧ i_Rel (k + 4) u' v')) (nI (c + 1), nI c, nI nb, fu, fc, kA, vA, kB, vB, pa, fo, ed, me, mp, di, dp, fi, bl, bb, be, sa, sp) (nI j) v (-1) 0 := by
  have hc := C.1.1
  obtain ⟨h30, hed, _, _⟩ := C.1.2.2 c (Nat.le_refl c)
  rcases Nat.lt_or_ge (en c) 30 with hlt | hge
  · refine pt_xch_1 hc hj hed hlt (hY _ (pt_yset_ok (w := 0) hj hc hed hlt fun vs' hnw => ⟨rfl, ?_⟩))
    refine pt_R_change (bb := bb) C M D B U hnb rfl hlt hnw ⟨j, hj, rfl⟩ (Or.inl rfl) fun i hi => ⟨fun z => absurd z (pt_neg_ne (by omega)), fun _ z => ?_, fun _ z => ?_⟩
    · have hji : j = i := (nI_eq (by omega) (by omega)).mp z
      rw [← hji]
      exact ⟨pk_us, pk_us⟩
    · have hji : i ≠ j := fun y => z (congrArg nI y.symm)
      exact ⟨pk_un hji, pk_un hji⟩
  · have h3 : ed c = nI 30 := by rw [hed]; exact congrArg nI (by omega)
    exact pt_xch_full hc h3 (hY _ (pt_yset_full hj hc h3 ⟨rfl, R⟩))
/-- an exchange, both sides -/
theorem pt_both_2 {k j l : Nat} (R : pt_R (nI (c + 1)) (nI c) (nI nb) fu fc kA vA kB vB pa fo ed me mp di dp fi bl bb be sa sp (nI (c + 1)) vs ed)
    (C : pt_Co c en pr fk E kA vA kB vB pa fo ed vs) (M : pt_Me c (en c) me mp vs) (D : pt_Di c (en c) di dp vs)
    (B : pt_Ba c en fi bl be sa sp vs) (U : pt_Uw c en nb fu fc fi bl sa sp vs) (hnb : nb < 4) (hj : j < 8) (hl : l < 8) :
    wpX_change (fun r u' => wpY_exchange (fun r' v' => r' = r ∧ i_Rel (k + 4) u' v') (nI (c + 1), vs, ed) (nI j) (nI l)) (nI (c + 1), nI c, nI nb, fu, fc, kA, vA, kB, vB, pa, fo, ed, me, mp, di, dp, fi, bl, bb, be, sa, sp) (nI j) (pt_V vs c (en c) l) (nI l) (pt_V vs c (en c) j) := by
  have hc := C.1.1
  obtain ⟨h30, hed, _, _⟩ := C.1.2.2 c (Nat.le_refl c)
  rcases Nat.lt_or_ge (en c) 30 with hlt | hge
  · refine pt_xch_2 hc hj hl hed hlt (pt_yex_ok hj hl hc hed hlt fun vs' hnw => ⟨rfl, ?_⟩)
    refine pt_R_change (bb := bb) C M D B U hnb rfl hlt hnw ⟨j, hj, rfl⟩ (Or.inr ⟨l, hl, rfl⟩) fun i hi => ⟨fun z => ?_, fun y z => ?_, fun y z => ?_⟩
    · have hli : l = i := (nI_eq (by omega) (by omega)).mp z
      rw [← hli]
      exact ⟨pk_us, pk_us⟩
    · have hji : j = i := (nI_eq (by omega) (by omega)).mp z
      have hli : i ≠ l := fun y' => y (congrArg nI y'.symm)
      rw [pk_un hli, pk_un hli, hji]
      exact ⟨pk_us, pk_us⟩
    · have hji : i ≠ j := fun y' => z (congrArg nI y'.symm)
      have hli : i ≠ l := fun y' => y (congrArg nI y'.symm)
      exact ⟨(pk_un hli).trans (pk_un hji), (pk_un hli).trans (pk_un hji)⟩
  · have h3 : ed c = nI 30 := by rw [hed]; exact congrArg nI (by omega)
    exact pt_xch_full hc h3 (pt_yex_full hj hl hc h3 ⟨rfl, R⟩)
end
theorem i_vc_set {k : Nat} {u : SX} {v : SY} (I : i_Rel k u v) (hk : k + 4 ≤ 2048) (v1 : Int32) (v2 : Int32) : wpX_set (fun r u' => wpY_set (fun r' v' => r' = r ∧ i_Rel (k + 4) u' v') v v1 v2) u v1 v2 := by
  refine pt_el (P := fun u v => wpX_set (fun r u' => wpY_set (fun r' v' => r' = r ∧ i_Rel (k + 4) u' v') v v1 v2) u v1 v2) I ?_
  intro ft fw fb fu fc kA vA kB vB pa fo ed me mp di dp fi bl bb be sa sp gt vs la R
  rcases pk_ix v1 (n := 8) (by decide) with h | h | ⟨j, hj, rfl⟩
  · exact pt_xset_bad (Or.inl h) (pt_yset_bad (Or.inl h) ⟨rfl, R⟩)
  · exact pt_xset_bad (Or.inr h) (pt_yset_bad (Or.inr h) ⟨rfl, R⟩)
  · obtain ⟨c, en, pr, fk, E, nb, rfl, rfl, rfl, hnb, rfl, hla, C, M, D, B, U⟩ := id R
    subst hla
    exact pt_xset_ch hj (pt_both_1 (fun post => wpY_set post (nI (c + 1), vs, la) (nI j) v2) (fun _ h => h) R C M D B U hnb hj)
theorem i_vc_add {k : Nat} {u : SX} {v : SY} (I : i_Rel k u v) (hk : k + 4 ≤ 2048) (v1 : Int32) (v2 : Int32) : wpX_add (fun r u' => wpY_add (fun r' v' => r' = r ∧ i_Rel (k + 4) u' v') v v1 v2) u v1 v2 := by
  refine pt_el (P := fun u v => wpX_add (fun r u' => wpY_add (fun r' v' => r' = r ∧ i_Rel (k + 4) u' v') v v1 v2) u v1 v2) I ?_
  intro ft fw fb fu fc kA vA kB vB pa fo ed me mp di dp fi bl bb be sa sp gt vs la R
  obtain ⟨c, en, pr, fk, E, nb, rfl, rfl, rfl, hnb, rfl, hla, C, M, D, B, U⟩ := id R
  subst hla
  have hc := C.1.1
  obtain ⟨h30, hed, _, _⟩ := C.1.2.2 c (Nat.le_refl c)
  rcases pk_ix v1 (n := 8) (by decide) with h | h | ⟨j, hj, rfl⟩
  · refine pt_xadd_bad (Or.inl h) ?_
    unfold wpY_add wpY_get
    exact pt_ynow hc hed (pt_ykey_no (Or.inl h) (br_t rfl (pt_yset_bad (Or.inl h) ⟨rfl, R⟩)))
  · refine pt_xadd_bad (Or.inr h) ?_
    unfold wpY_add wpY_get
    exact pt_ynow hc hed (pt_ykey_no (Or.inr h) (br_t rfl (pt_yset_bad (Or.inr h) ⟨rfl, R⟩)))
  · refine pt_xadd_ch hj (pt_both_1 (fun post => wpY_add post (nI (c + 1), vs, la) (nI j) v2) (fun post h => ?_) R C M D B U hnb hj)
    unfold wpY_add wpY_get
    refine pt_ynow hc hed (pt_ykey_ok hj (br_f (by decide) ?_))
    rw [nI_add, nI_clamp (by omega)]
    refine ⟨vp_in_nI (by omega) (by decide), ?_⟩
    rw [M.2 j hj] at h
    exact h
theorem i_vc_exchange {k : Nat} {u : SX} {v : SY} (I : i_Rel k u v) (hk : k + 4 ≤ 2048) (v1 : Int32) (v2 : Int32) : wpX_exchange (fun r u' => wpY_exchange (fun r' v' => r' = r ∧ i_Rel (k + 4) u' v') v v1 v2) u v1 v2 := by
  refine pt_el (P := fun u v => wpX_exchange (fun r u' => wpY_exchange (fun r' v' => r' = r ∧ i_Rel (k + 4) u' v') v v1 v2) u v1 v2) I ?_
  intro ft fw fb fu fc kA vA kB vB pa fo ed me mp di dp fi bl bb be sa sp gt vs la R
  by_cases hb : (v1 < 0 ∨ nI 8 ≤ v1) ∨ (v2 < 0 ∨ nI 8 ≤ v2)
  · exact pt_xex_bad hb (pt_yex_bad hb ⟨rfl, R⟩)
  · rcases pk_ix v1 (n := 8) (by decide) with h | h | ⟨j, hj, rfl⟩
    · exact absurd (Or.inl (Or.inl h)) hb
    · exact absurd (Or.inl (Or.inr h)) hb
    · rcases pk_ix v2 (n := 8) (by decide) with h | h | ⟨l, hl, rfl⟩
      · exact absurd (Or.inr (Or.inl h)) hb
      · exact absurd (Or.inr (Or.inr h)) hb
      · obtain ⟨c, en, pr, fk, E, nb, rfl, rfl, rfl, hnb, rfl, hla, C, M, D, B, U⟩ := id R
        subst hla
        refine pt_xex_ch hj hl ?_
        rw [M.2 j hj, M.2 l hl]
        exact pt_both_2 R C M D B U hnb hj hl
end
section
theorem i_vc_get {k : Nat} {u : SX} {v : SY} (I : i_Rel k u v) (hk : k + 4 ≤ 2048) (v1 : Int32) : wpX_get (fun r => wpY_get (fun r' => r' = r ∧ i_Rel (k + 4) u v) v v1) u v1 := by
  refine pt_el (P := fun u v => wpX_get (fun r => wpY_get (fun r' => r' = r ∧ i_Rel (k + 4) u v) v v1) u v1) I ?_
  intro ft fw fb fu fc kA vA kB vB pa fo ed me mp di dp fi bl bb be sa sp gt vs la R
  obtain ⟨c, en, pr, fk, E, nb, rfl, rfl, rfl, hnb, rfl, hla, C, M, D, B, U⟩ := id R
  subst hla
  have hc := C.1.1
  obtain ⟨h30, hed, _, _⟩ := C.1.2.2 c (Nat.le_refl c)
  unfold wpX_get wpY_get
  rcases pk_ix v1 (n := 8) (by decide) with h | h | ⟨j, hj, rfl⟩
  · exact pt_xbad_no (Or.inl h) (br_f (by decide) (pt_ynow hc hed (pt_ykey_no (Or.inl h) (br_t rfl ⟨rfl, R⟩))))
  · exact pt_xbad_no (Or.inr h) (br_f (by decide) (pt_ynow hc hed (pt_ykey_no (Or.inr h) (br_t rfl ⟨rfl, R⟩))))
  · refine pt_xbad_ok hj (br_t rfl ⟨vp_in_nI hj (by decide), ?_⟩)
    refine pt_ynow hc hed (pt_ykey_ok hj (br_f (by decide) ?_))
    rw [nI_add, nI_clamp (by omega), nI_clamp (by omega)]
    exact ⟨vp_in_nI (by omega) (by decide), (M.2 j hj).symm, R⟩
theorem i_vc_timeline {k : Nat} {u : SX} {v : SY} (I : i_Rel k u v) (hk : k + 4 ≤ 2048) : wpX_timeline (fun r => wpY_timeline (fun r' => r' = r ∧ i_Rel (k + 4) u v) v) u := by
  refine pt_el (P := fun u v => wpX_timeline (fun r => wpY_timeline (fun r' => r' = r ∧ i_Rel (k + 4) u v) v) u) I ?_
  intro ft fw fb fu fc kA vA kB vB pa fo ed me mp di dp fi bl bb be sa sp gt vs la R
  obtain ⟨c, en, pr, fk, E, nb, rfl, rfl, rfl, hnb, rfl, hla, C, M, D, B, U⟩ := id R
  exact ⟨pt_m1 c, R⟩
theorem i_vc_point {k : Nat} {u : SX} {v : SY} (I : i_Rel k u v) (hk : k + 4 ≤ 2048) : wpX_point (fun r => wpY_point (fun r' => r' = r ∧ i_Rel (k + 4) u v) v) u := by
  refine pt_el (P := fun u v => wpX_point (fun r => wpY_point (fun r' => r' = r ∧ i_Rel (k + 4) u v) v) u) I ?_
  intro ft fw fb fu fc kA vA kB vB pa fo ed me mp di dp fi bl bb be sa sp gt vs la R
  obtain ⟨c, en, pr, fk, E, nb, rfl, rfl, rfl, hnb, rfl, hla, C, M, D, B, U⟩ := id R
  subst hla
  have hc := C.1.1
  obtain ⟨h30, hed, _, _⟩ := C.1.2.2 c (Nat.le_refl c)
  unfold wpX_point
  refine ⟨vp_in_nI (by omega) (by decide), pt_ypoint hc hed ?_⟩
  rw [nI_clamp (by omega), hed]
  exact ⟨rfl, R⟩
theorem i_vc_lastPoint {k : Nat} {u : SX} {v : SY} (I : i_Rel k u v) (hk : k + 4 ≤ 2048) (v1 : Int32) : wpX_lastPoint (fun r => wpY_lastPoint (fun r' => r' = r ∧ i_Rel (k + 4) u v) v v1) u v1 := by
  refine pt_el (P := fun u v => wpX_lastPoint (fun r => wpY_lastPoint (fun r' => r' = r ∧ i_Rel (k + 4) u v) v v1) u v1) I ?_
  intro ft fw fb fu fc kA vA kB vB pa fo ed me mp di dp fi bl bb be sa sp gt vs la R
  obtain ⟨c, en, pr, fk, E, nb, rfl, rfl, rfl, hnb, rfl, hla, C, M, D, B, U⟩ := id R
  subst hla
  have hc := C.1.1
  unfold wpX_lastPoint wpY_lastPoint
  rcases pk_ix v1 (n := c + 1) (by omega) with h | h | ⟨t, ht, rfl⟩
  · have hno : ¬ pt_pt c en v1 0 := by
      rintro ⟨t, n, h1, h2, h3, h4⟩
      rw [h3] at h
      exact nI_pos (by omega) h
    exact br_t h (pt_yip_no C.1 hno (br_t rfl ⟨rfl, R⟩))
  · have hno : ¬ pt_pt c en v1 0 := by
      rintro ⟨t, n, h1, h2, h3, h4⟩
      rw [h3] at h
      exact nI_ge (by omega) (by omega) h
    have h0 : ¬ v1 < 0 := by
      intro z
      have h1 : nI (c + 1) < 0 := Int32.lt_of_le_of_lt h z
      exact nI_pos (by omega) h1
    exact br_f h0 (br_f (Int32.not_lt.mpr h) (pt_yip_no C.1 hno (br_t rfl ⟨rfl, R⟩)))
  · have hin : vp_in (nI t) 6 := vp_in_nI (by omega) (by decide)
    refine br_f (nI_pos (by omega)) (br_t (nI_lt ht (by omega)) ⟨hin, ?_⟩)
    refine pt_yip_ok (n := 0) C.1 (by omega) (Nat.zero_le _) (br_f (by decide) ⟨hin, rfl, R⟩)
theorem i_vc_valueAt {k : Nat} {u : SX} {v : SY} (I : i_Rel k u v) (hk : k + 4 ≤ 2048) (v1 : Int32) (v2 : Int32) (v3 : Int32) : wpX_valueAt (fun r => wpY_valueAt (fun r' => r' = r ∧ i_Rel (k + 4) u v) v v1 v2 v3) u v1 v2 v3 := by
  refine pt_el (P := fun u v => wpX_valueAt (fun r => wpY_valueAt (fun r' => r' = r ∧ i_Rel (k + 4) u v) v v1 v2 v3) u v1 v2 v3) I ?_
  intro ft fw fb fu fc kA vA kB vB pa fo ed me mp di dp fi bl bb be sa sp gt vs la R
  obtain ⟨c, en, pr, fk, E, nb, rfl, rfl, rfl, hnb, rfl, hla, C, M, D, B, U⟩ := id R
  subst hla
  have hc := C.1.1
  unfold wpX_valueAt wpY_valueAt
  by_cases hp : pt_pt c en v1 v2
  · obtain ⟨t, n, ht, hn, rfl, rfl⟩ := hp
    have h30 := (C.1.2.2 t ht).1
    refine pt_xnp_ok C.1 ht hn (br_t rfl ?_)
    rcases pk_ix v3 (n := 8) (by decide) with h | h | ⟨j, hj, rfl⟩
    · exact pt_xbad_no (Or.inl h) (br_f (by decide) (pt_yip_ok C.1 ht hn (br_f (by decide) (pt_ykey_no (Or.inl h) (br_t rfl ⟨rfl, R⟩)))))
    · exact pt_xbad_no (Or.inr h) (br_f (by decide) (pt_yip_ok C.1 ht hn (br_f (by decide) (pt_ykey_no (Or.inr h) (br_t rfl ⟨rfl, R⟩)))))
    · refine pt_xbad_ok hj (br_t rfl (pt_valueThen C ht hn hj (pt_yip_ok C.1 ht hn (br_f (by decide) (pt_ykey_ok hj (br_f (by decide) ?_))))))
      rw [pt_i248, nI_add, nI_clamp (by omega)]
      exact ⟨vp_in_nI (by omega) (by decide), rfl, R⟩
  · exact pt_xnp_no C.1 hp (br_f (by decide) (pt_yip_no C.1 hp (br_t rfl ⟨rfl, R⟩)))
section
variable {ft fw fb fu fc : Int32} {kA vA kB vB pa fo ed me mp di dp fi bl bb be sa sp : Nat → Int32}
variable {c : Nat} {en pr fk : Nat → Nat} {E : Nat → Nat → Nat} {vs : Nat → Int32} {gt : Int32} {la : Nat → Int32}
theorem pt_lc (C : pt_Co c en pr fk E kA vA kB vB pa fo ed vs) {t k N : Nat} (ht : t ≤ c) (hN : N ≤ en t) (hk : k < 8) :
    ∀ p : Nat, p ≤ N → pt_V vs t p k = pt_V vs t N k → ∃ r : Int32, (∀ post : Int32 → Prop, post r → wX_lastChange_34 post (nI t) (nI k) (pt_V vs t N k) ft fw fb fu fc kA vA kB vB pa fo ed me mp di dp fi bl bb be sa sp (p + 1) (nI p)) ∧
      (∀ post : Int32 → Prop, post r → wY_lastChange_25 post (nI t) (nI k) gt vs la (p + 1) (nI p)) := by
  have hc := C.1.1
  have h30 := (C.1.2.2 t ht).1
  intro p
  induction p with
  | zero =>
    intro _ _
    exact ⟨0, fun _ h => br_t (Int32.le_refl 0) h, fun _ h => br_t (Int32.le_refl 0) h⟩
  | succ p ih =>
    intro hp hv
    have h0 : ¬ nI (p + 1) ≤ 0 := nI_nle (by omega) (by omega)
    have e1 : (248 : Int32) * nI t + 8 * nI (p + 1) + nI k = nI (248 * t + 8 * (p + 1) + k) := by rw [pt_i248, nI_add]
    have e2 : (248 : Int32) * nI t + 8 * nI (p + 1) - 8 + nI k = nI (248 * t + 8 * p + k) := by
      rw [pt_i248, show (8 : Int32) = nI 8 from rfl, pk_sub (by omega), nI_add]
      exact congrArg nI (by omega)
    have hX : ∀ post : Int32 → Prop, ((pt_V vs t p k = pt_V vs t N k → wX_lastChange_34 post (nI t) (nI k) (pt_V vs t N k) ft fw fb fu fc kA vA kB vB pa fo ed me mp di dp fi bl bb be sa sp (p + 1) (nI p)) ∧ (¬ pt_V vs t p k = pt_V vs t N k → post (nI (p + 1)))) →
        wX_lastChange_34 post (nI t) (nI k) (pt_V vs t N k) ft fw fb fu fc kA vA kB vB pa fo ed me mp di dp fi bl bb be sa sp (p + 1 + 1) (nI (p + 1)) := by
      intro post h
      refine br_f h0 ?_
      rw [nI_pred]
      exact pt_valueThen C ht (by omega) hk ⟨fun z => nm_r (pk_m1 p) (h.1 z), h.2⟩
    have hY : ∀ post : Int32 → Prop, ((pt_V vs t (p + 1) k = pt_V vs t p k → wY_lastChange_25 post (nI t) (nI k) gt vs la (p + 1) (nI p)) ∧ (¬ pt_V vs t (p + 1) k = pt_V vs t p k → post (nI (p + 1)))) →
        wY_lastChange_25 post (nI t) (nI k) gt vs la (p + 1 + 1) (nI (p + 1)) := by
      intro post h
      refine br_f h0 ?_
      rw [e1, e2, nI_clamp (by omega), nI_clamp (by omega)]
      exact ⟨vp_in_nI (by omega) (by decide), vp_in_nI (by omega) (by decide), fun z => nm_r (pk_m1 p) (h.1 z), h.2⟩
    by_cases z : pt_V vs t p k = pt_V vs t N k
    · obtain ⟨r, h1, h2⟩ := ih (by omega) z
      exact ⟨r, fun post h => hX post (br_t z (h1 post h)), fun post h => hY post (br_t (hv.trans z.symm) (h2 post h))⟩
    · exact ⟨nI (p + 1), fun post h => hX post (br_f z h), fun post h => hY post (br_f (fun y => z (y.symm.trans hv)) h)⟩
theorem pt_df (C : pt_Co c en pr fk E kA vA kB vB pa fo ed vs) (M : pt_Me c (en c) me mp vs) {t n : Nat} (ht : t ≤ c) (hn : n ≤ en t) :
    ∀ d i : Nat, i + d = 8 → ∀ s : Int32, ∃ r : Int32, (∀ post : Int32 → Prop, post r → wX_differs_17 post (nI t) (nI n) ft fw fb fu fc kA vA kB vB pa fo ed me mp di dp fi bl bb be sa sp (d + 1) s (nI i)) ∧
      (∀ post : Int32 → Prop, post r → wY_differs_23 post (nI t) (nI n) (nI (248 * c + 8 * en c)) gt vs la (d + 1) s (nI i)) := by
  have hc := C.1.1
  have h30 := (C.1.2.2 t ht).1
  have h31 := (C.1.2.2 c (Nat.le_refl c)).1
  intro d
  induction d with
  | zero =>
    intro i hi s
    have h8 : (8 : Int32) ≤ nI i := nI_le (a := 8) (by omega) (by omega)
    exact ⟨s, fun _ h => br_t h8 h, fun _ h => br_t h8 h⟩
  | succ d ih =>
    intro i hi s
    have h8 : ¬ (8 : Int32) ≤ nI i := nI_ge (b := 8) (by omega) (by decide)
    have e1 : (248 : Int32) * nI t + 8 * nI n + nI i = nI (248 * t + 8 * n + i) := by rw [pt_i248, nI_add]
    have e2 : nI (248 * c + 8 * en c) + nI i = nI (248 * c + 8 * en c + i) := nI_add _ _
    have hm := M.2 i (by omega)
    have hX : ∀ post : Int32 → Prop, ((pt_V vs t n i = pt_V vs c (en c) i → wX_differs_17 post (nI t) (nI n) ft fw fb fu fc kA vA kB vB pa fo ed me mp di dp fi bl bb be sa sp (d + 1) s (nI (i + 1))) ∧ (¬ pt_V vs t n i = pt_V vs c (en c) i → wX_differs_17 post (nI t) (nI n) ft fw fb fu fc kA vA kB vB pa fo ed me mp di dp fi bl bb be sa sp (d + 1) (s + 1) (nI (i + 1)))) →
        wX_differs_17 post (nI t) (nI n) ft fw fb fu fc kA vA kB vB pa fo ed me mp di dp fi bl bb be sa sp (d + 1 + 1) s (nI i) := by
      intro post h
      refine br_f h8 (pt_valueThen C ht hn (by omega) ⟨vp_in_nI (by omega) (by decide), ?_⟩)
      rw [nI_clamp (by omega), hm]
      exact ⟨fun z => nm_r (nI_1 i) (h.1 z), fun z => nm_e (nm_r (nI_1 i) (h.2 z))⟩
    have hY : ∀ post : Int32 → Prop, ((pt_V vs t n i = pt_V vs c (en c) i → wY_differs_23 post (nI t) (nI n) (nI (248 * c + 8 * en c)) gt vs la (d + 1) s (nI (i + 1))) ∧ (¬ pt_V vs t n i = pt_V vs c (en c) i → wY_differs_23 post (nI t) (nI n) (nI (248 * c + 8 * en c)) gt vs la (d + 1) (s + 1) (nI (i + 1)))) →
        wY_differs_23 post (nI t) (nI n) (nI (248 * c + 8 * en c)) gt vs la (d + 1 + 1) s (nI i) := by
      intro post h
      refine br_f h8 ?_
      rw [e1, e2, nI_clamp (by omega), nI_clamp (by omega)]
      exact ⟨vp_in_nI (by omega) (by decide), vp_in_nI (by omega) (by decide), fun z => nm_r (nI_1 i) (h.1 z), fun z => nm_e (nm_r (nI_1 i) (h.2 z))⟩
    by_cases z : pt_V vs t n i = pt_V vs c (en c) i
    · obtain ⟨r, h1, h2⟩ := ih (i + 1) (by omega) s
      exact ⟨r, fun post h => hX post (br_t z (h1 post h)), fun post h => hY post (br_t z (h2 post h))⟩
    · obtain ⟨r, h1, h2⟩ := ih (i + 1) (by omega) (s + 1)
      exact ⟨r, fun post h => hX post (br_f z (h1 post h)), fun post h => hY post (br_f z (h2 post h))⟩
theorem pt_dg {e : Nat} (hc : c ≤ 5) (he : e ≤ 30) (M : pt_Me c e me mp vs) :
    ∀ d i : Nat, i + d = 8 → ∀ s : Int32, ∃ r : Int32, (∀ post : Int32 → Prop, post r → wX_digest_4 post ft fw fb fu fc kA vA kB vB pa fo ed me mp di dp fi bl bb be sa sp (d + 1) s (nI i)) ∧
      (∀ post : Int32 → Prop, post r → wY_digest_9 post (nI (248 * c + 8 * e)) gt vs la (d + 1) s (nI i)) := by
  intro d
  induction d with
  | zero =>
    intro i hi s
    have h8 : (8 : Int32) ≤ nI i := nI_le (a := 8) (by omega) (by omega)
    exact ⟨s, fun _ h => br_t h8 h, fun _ h => br_t h8 h⟩
  | succ d ih =>
    intro i hi s
    have h8 : ¬ (8 : Int32) ≤ nI i := nI_ge (b := 8) (by omega) (by decide)
    have e2 : nI (248 * c + 8 * e) + nI i = nI (248 * c + 8 * e + i) := nI_add _ _
    have hm := M.2 i (by omega)
    obtain ⟨r, h1, h2⟩ := ih (i + 1) (by omega) (s + (nI i + 1) * pt_V vs c e i)
    refine ⟨r, fun post h => br_f h8 ⟨vp_in_nI (by omega) (by decide), ?_⟩, fun post h => br_f h8 ?_⟩
    · rw [nI_clamp (by omega), hm]
      exact nm_e (nm_r (nI_1 i) (h1 post h))
    · rw [e2, nI_clamp (by omega)]
      exact ⟨vp_in_nI (by omega) (by decide), nm_e (nm_r (nI_1 i) (h2 post h))⟩
end
theorem i_vc_lastChange {k : Nat} {u : SX} {v : SY} (I : i_Rel k u v) (hk : k + 4 ≤ 2048) (v1 : Int32) (v2 : Int32) (v3 : Int32) : wpX_lastChange (fun r => wpY_lastChange (fun r' => r' = r ∧ i_Rel (k + 4) u v) v v1 v2 v3) u v1 v2 v3 := by
  refine pt_el (P := fun u v => wpX_lastChange (fun r => wpY_lastChange (fun r' => r' = r ∧ i_Rel (k + 4) u v) v v1 v2 v3) u v1 v2 v3) I ?_
  intro ft fw fb fu fc kA vA kB vB pa fo ed me mp di dp fi bl bb be sa sp gt vs la R
  obtain ⟨c, en, pr, fk, E, nb, rfl, rfl, rfl, hnb, rfl, hla, C, M, D, B, U⟩ := id R
  subst hla
  unfold wpX_lastChange wpY_lastChange
  rcases pk_ix v3 (n := 8) (by decide) with h | h | ⟨j, hj, rfl⟩
  · exact pt_xbad_no (Or.inl h) (br_f (by decide) (pt_ykey_no (Or.inl h) (br_t rfl ⟨rfl, R⟩)))
  · exact pt_xbad_no (Or.inr h) (br_f (by decide) (pt_ykey_no (Or.inr h) (br_t rfl ⟨rfl, R⟩)))
  · refine pt_xbad_ok hj (br_t rfl ?_)
    by_cases hp : pt_pt c en v1 v2
    · obtain ⟨t, n, ht, hn, rfl, rfl⟩ := hp
      obtain ⟨r, hX, hY⟩ := pt_lc (ft := nI (c + 1)) (fw := nI c) (fb := nI nb) (fu := fu) (fc := fc) (kA := kA) (vA := vA) (kB := kB) (vB := vB) (pa := pa) (fo := fo) (ed := la) (me := me) (mp := mp) (di := di) (dp := dp) (fi := fi) (bl := bl) (bb := bb) (be := be) (sa := sa) (sp := sp) (gt := nI (c + 1)) (la := la) C ht hn hj n (Nat.le_refl n) rfl
      exact pt_xnp_ok C.1 ht hn (br_t rfl (pt_valueThen C ht hn hj ⟨n + 1, hX _ (pt_ykey_ok hj (br_f (by decide) (pt_yip_ok C.1 ht hn (br_f (by decide) ⟨n + 1, hY _ ⟨rfl, R⟩⟩))))⟩))
    · exact pt_xnp_no C.1 hp (br_f (by decide) (pt_ykey_ok hj (br_f (by decide) (pt_yip_no C.1 hp (br_t rfl ⟨rfl, R⟩)))))
theorem i_vc_differs {k : Nat} {u : SX} {v : SY} (I : i_Rel k u v) (hk : k + 4 ≤ 2048) (v1 : Int32) (v2 : Int32) : wpX_differs (fun r => wpY_differs (fun r' => r' = r ∧ i_Rel (k + 4) u v) v v1 v2) u v1 v2 := by
  refine pt_el (P := fun u v => wpX_differs (fun r => wpY_differs (fun r' => r' = r ∧ i_Rel (k + 4) u v) v v1 v2) u v1 v2) I ?_
  intro ft fw fb fu fc kA vA kB vB pa fo ed me mp di dp fi bl bb be sa sp gt vs la R
  obtain ⟨c, en, pr, fk, E, nb, rfl, rfl, rfl, hnb, rfl, hla, C, M, D, B, U⟩ := id R
  subst hla
  have hc := C.1.1
  obtain ⟨h30, hed, _, _⟩ := C.1.2.2 c (Nat.le_refl c)
  unfold wpX_differs wpY_differs
  by_cases hp : pt_pt c en v1 v2
  · obtain ⟨t, n, ht, hn, rfl, rfl⟩ := hp
    obtain ⟨r, hX, hY⟩ := pt_df (ft := nI (c + 1)) (fw := nI c) (fb := nI nb) (fu := fu) (fc := fc) (kA := kA) (vA := vA) (kB := kB) (vB := vB) (pa := pa) (fo := fo) (ed := la) (me := me) (mp := mp) (di := di) (dp := dp) (fi := fi) (bl := bl) (bb := bb) (be := be) (sa := sa) (sp := sp) (gt := nI (c + 1)) (la := la) C M ht hn 8 0 rfl 0
    exact pt_xnp_ok C.1 ht hn (br_t rfl ⟨9, hX _ (pt_yip_ok C.1 ht hn (br_f (by decide) (pt_ynow hc hed ⟨9, hY _ ⟨rfl, R⟩⟩)))⟩)
  · exact pt_xnp_no C.1 hp (br_f (by decide) (pt_yip_no C.1 hp (br_t rfl ⟨rfl, R⟩)))
theorem i_vc_digest {k : Nat} {u : SX} {v : SY} (I : i_Rel k u v) (hk : k + 4 ≤ 2048) : wpX_digest (fun r => wpY_digest (fun r' => r' = r ∧ i_Rel (k + 4) u v) v) u := by
  refine pt_el (P := fun u v => wpX_digest (fun r => wpY_digest (fun r' => r' = r ∧ i_Rel (k + 4) u v) v) u) I ?_
  intro ft fw fb fu fc kA vA kB vB pa fo ed me mp di dp fi bl bb be sa sp gt vs la R
  obtain ⟨c, en, pr, fk, E, nb, rfl, rfl, rfl, hnb, rfl, hla, C, M, D, B, U⟩ := id R
  subst hla
  have hc := C.1.1
  obtain ⟨h30, hed, _, _⟩ := C.1.2.2 c (Nat.le_refl c)
  unfold wpX_digest wpY_digest
  obtain ⟨r, hX, hY⟩ := pt_dg (ft := nI (c + 1)) (fw := nI c) (fb := nI nb) (fu := fu) (fc := fc) (kA := kA) (vA := vA) (kB := kB) (vB := vB) (pa := pa) (fo := fo) (ed := la) (me := me) (mp := mp) (di := di) (dp := dp) (fi := fi) (bl := bl) (bb := bb) (be := be) (sa := sa) (sp := sp) (gt := nI (c + 1)) (la := la) hc h30 M 8 0 rfl 0
  exact ⟨9, hX _ (pt_ynow hc hed ⟨9, hY _ ⟨rfl, R⟩⟩)⟩
end
section
section
variable {ft fw fb fu fc : Int32} {kA vA kB vB pa fo ed me mp di dp fi bl bb be sa sp : Nat → Int32}
variable {vs : Nat → Int32} {c : Nat} {en pr fk : Nat → Nat} {E : Nat → Nat → Nat} {t N l p : Nat}
theorem pt_otw_69 {post : Int32 → Prop} {a lim : Nat} (ha : a ≤ 5) (hl : l ≤ 5) (hlim : lim ≤ 30) (hp : p ≤ 30) (h0 : post 0) (h1 : a = l → p ≤ lim → post 1) :
    wX_onTheWay_69 post (nI l) (nI p) (nI a) (nI lim) ft fw fb fu fc kA vA kB vB pa fo ed me mp di dp fi bl bb be sa sp := by
  unfold wX_onTheWay_69
  exact pk_eq a l (fun z => pk_lt lim p (fun _ => h0) (fun y => h1 z y) rfl rfl (by omega) (by omega)) (fun _ => h0) rfl rfl (by omega) (by omega)
theorem pt_otw_m1 {post : Int32 → Prop} {lim x7 : Int32} {n : Nat} (hl : l ≤ 5) (h0 : post 0) :
    wX_onTheWay_10 post (nI l) (nI p) ft fw fb fu fc kA vA kB vB pa fo ed me mp di dp fi bl bb be sa sp (n + 1) (-1) lim x7 := by
  have hne : ¬ (-1 : Int32) = nI l := pt_neg_ne (by omega)
  have hj : wX_onTheWay_69 post (nI l) (nI p) (-1) lim ft fw fb fu fc kA vA kB vB pa fo ed me mp di dp fi bl bb be sa sp := by
    unfold wX_onTheWay_69
    exact br_f hne h0
  exact br_c (fun _ => hj) (fun _ => br_f hne (br_t pt_neg1 hj))
theorem pt_otw_10 {post : Int32 → Prop} (hE : pt_En c en fk fo ed) (hP : pt_Pa c pr fk pa vs) (hl : l ≤ 5) (hp : p ≤ 30) (hN : N ≤ 30) (h0 : post 0)
    (h1 : p ≤ N → (∀ q k, q ≤ p → k < 8 → pt_V vs l q k = pt_V vs t q k) → post 1) :
    ∀ m a : Nat, a < m → a ≤ c → ∀ lim i : Nat, a + i ≤ 5 → lim ≤ N → (∀ q k, q ≤ lim → k < 8 → pt_V vs a q k = pt_V vs t q k) → ∀ n : Nat, a + 1 < n →
      wX_onTheWay_10 post (nI l) (nI p) ft fw fb fu fc kA vA kB vB pa fo ed me mp di dp fi bl bb be sa sp n (nI a) (nI lim) (nI i) := by
  have hc := hE.1
  intro m
  induction m with
  | zero => intro a h; omega
  | succ m ih =>
    intro a ham hac lim i hi hlim hV n hn
    cases n with
    | zero => omega
    | succ n =>
      obtain ⟨h30, hed, hfo, hfe⟩ := hE.2.2 a hac
      have hcl : (nI a).toNatClampNeg = a := nI_clamp (by omega)
      have hin : vp_in (nI a) 6 := vp_in_nI (by omega) (by decide)
      have hJ : wX_onTheWay_69 post (nI l) (nI p) (nI a) (nI lim) ft fw fb fu fc kA vA kB vB pa fo ed me mp di dp fi bl bb be sa sp :=
        pt_otw_69 (by omega) hl (by omega) hp h0 fun z y => h1 (by omega) fun q k hq hk => z ▸ hV q k (by omega) hk
      have hgo : ∀ lim' : Nat, lim' ≤ lim → lim' ≤ fk a → wX_onTheWay_52 post (wX_onTheWay_10 post (nI l) (nI p) ft fw fb fu fc kA vA kB vB pa fo ed me mp di dp fi bl bb be sa sp n) (nI l) (nI p) (nI a) (nI i) (nI lim') ft fw fb fu fc kA vA kB vB pa fo ed me mp di dp fi bl bb be sa sp := by
        intro lim' hl1 hl2
        unfold wX_onTheWay_52
        refine ⟨hin, ?_⟩
        rw [hcl]
        rcases Nat.eq_zero_or_pos a with ha0 | ha0
        · rw [ha0, hP.1]
          obtain ⟨n', rfl⟩ : ∃ n', n = n' + 1 := ⟨n - 1, by omega⟩
          exact nm_e (nm_e (pt_otw_m1 hl h0))
        · obtain ⟨h3, h4, h5⟩ := hP.2 a ha0 hac
          rw [h4]
          refine nm_e (nm_r (nI_1 i) (ih (pr a) (by omega) (by omega) lim' (i + 1) (by omega) (by omega) (fun q k hq hk => ?_) n (by omega)))
          rw [← h5 q k (by omega) hk]
          exact hV q k (by omega) hk
      refine br_f (nI_ge (b := 6) (by omega) (by decide)) (br_c (fun _ => hJ) fun _ => br_f (nI_pos (by omega)) ⟨hin, ?_⟩)
      rw [hcl, hfo]
      exact pk_le lim (fk a) (fun h => hgo lim (Nat.le_refl _) h) (fun h => ⟨hin, hgo (fk a) (by omega) (Nat.le_refl _)⟩) rfl rfl (by omega) (by omega)
theorem pt_otw {post : Int32 → Prop} (hE : pt_En c en fk fo ed) (hP : pt_Pa c pr fk pa vs) (hl : l ≤ 5) (hp : p ≤ 30) (ht : t ≤ c) (hN : N ≤ 30) (h0 : post 0)
    (h1 : p ≤ N → (∀ q k, q ≤ p → k < 8 → pt_V vs l q k = pt_V vs t q k) → post 1) : wpX_onTheWay post (ft, fw, fb, fu, fc, kA, vA, kB, vB, pa, fo, ed, me, mp, di, dp, fi, bl, bb, be, sa, sp) (nI l) (nI p) (nI t) (nI N) := by
  have hc := hE.1
  exact ⟨t + 2, pt_otw_10 hE hP hl hp hN h0 h1 (t + 1) t (by omega) ht N 0 (by omega) (Nat.le_refl N) (fun _ _ _ _ => rfl) (t + 2) (by omega)⟩
/-- what usable may answer: none, or a slot whose cells are cells of timeline t up to N -/
def pt_us (t N : Nat) (sa sp vs : Nat → Int32) (x : Int32) : Prop := x = -1 ∨ ∃ b, b < 4 ∧ x = nI b ∧ pt_Sl t N b 8 sa sp vs
theorem pt_usable_5 {post : Int32 → Prop} (hE : pt_En c en fk fo ed) (hP : pt_Pa c pr fk pa vs) (B : pt_Ba c en fi bl be sa sp vs) (ht : t ≤ c) (hN : N ≤ en t)
    (K : ∀ x, pt_us t N sa sp vs x → post x) :
    ∀ d i : Nat, i + d = 4 → ∀ x, pt_us t N sa sp vs x → ∀ n : Nat, d < n → wX_usable_5 post (nI t) (nI N) ft fw fb fu fc kA vA kB vB pa fo ed me mp di dp fi bl bb be sa sp n x (nI i) := by
  have hc := hE.1
  have h30 := (hE.2.2 t ht).1
  intro d
  induction d with
  | zero =>
    intro i hi x hx n hn
    cases n with
    | zero => omega
    | succ n => exact br_t (nI_le (a := 4) (by omega) (by omega)) (K x hx)
  | succ d ih =>
    intro i hi x hx n hn
    cases n with
    | zero => omega
    | succ n =>
      have hcl : (nI i).toNatClampNeg = i := nI_clamp (by omega)
      have hin : vp_in (nI i) 4 := vp_in_nI (by omega) (by decide)
      have hnext : ∀ y, pt_us t N sa sp vs y → wX_usable_5 post (nI t) (nI N) ft fw fb fu fc kA vA kB vB pa fo ed me mp di dp fi bl bb be sa sp n y (nI (i + 1)) := fun y hy => ih (i + 1) (by omega) y hy n (by omega)
      refine br_f (nI_ge (b := 4) (by omega) (by decide)) ⟨hin, ?_⟩
      rw [hcl]
      by_cases hf : fi i = 0
      · exact br_t hf (nm_r (nI_1 i) (hnext x hx))
      · obtain ⟨l, e, g1, g2, g3, g4, g5⟩ := B i (by omega) hf
        have g6 := (hE.2.2 l g1).1
        refine br_f hf ⟨hin, hin, ?_⟩
        rw [g3, g4]
        refine pt_otw hE hP (by omega) (by omega) ht (by omega) (br_t rfl (nm_r (nI_1 i) (hnext x hx))) fun hle hV => br_f (by decide) ?_
        have hgood : pt_us t N sa sp vs (nI i) :=
          Or.inr ⟨i, by omega, rfl, fun k hk => pt_cell_mono (pt_cell_tr (g5 k hk) fun q hq => (hV q k hq hk).symm) hle⟩
        rcases hx with hx | ⟨b, hb, hx, hx2⟩
        · refine br_t (by rw [hx]; exact pt_neg1) (nm_r (nI_1 i) (hnext _ hgood))
        · refine br_f (by rw [hx]; exact nI_pos (by omega)) ⟨hin, by rw [hx]; exact vp_in_nI hb (by decide), ?_⟩
          exact br_c (fun _ => nm_r (nI_1 i) (hnext x (Or.inr ⟨b, hb, hx, hx2⟩))) (fun _ => nm_r (nI_1 i) (hnext _ hgood))
theorem pt_usable {post : Int32 → Prop} (hE : pt_En c en fk fo ed) (hP : pt_Pa c pr fk pa vs) (B : pt_Ba c en fi bl be sa sp vs) (ht : t ≤ c) (hN : N ≤ en t)
    (K : ∀ x, pt_us t N sa sp vs x → post x) : wpX_usable post (ft, fw, fb, fu, fc, kA, vA, kB, vB, pa, fo, ed, me, mp, di, dp, fi, bl, bb, be, sa, sp) (nI t) (nI N) :=
  ⟨5, pt_usable_5 hE hP B ht hN K 4 0 rfl (-1) (Or.inl rfl) 5 (by omega)⟩
end
end
section
section
variable {ft fw fb fu fc : Int32} {kA vA kB vB pa fo ed me mp di dp fi bl bb be sa sp : Nat → Int32}
variable {vs : Nat → Int32} {c : Nat} {en pr fk : Nat → Nat} {E : Nat → Nat → Nat} {t n : Nat}
theorem pt_restore_110 {post : Int32 → SX → Prop} (hc : c < 5)
    (K : ∀ di' dp' : Nat → Int32, (∀ k, k < 8 → di' k = me k ∧ dp' k = mp k) → post (nI (c + 1)) (nI (c + 1 + 1), nI (c + 1), fb, 0, fc, kA, vA, kB, vB, upd pa (c + 1) (nI t), upd fo (c + 1) (nI n), upd ed (c + 1) (nI n), me, mp, di', dp', fi, bl, bb, be, sa, sp)) :
    ∀ d i : Nat, i + d = 8 → ∀ di dp : Nat → Int32, (∀ k, k < i → di k = me k ∧ dp k = mp k) → ∀ f : Nat, d < f → wX_restore_110 post (nI t) (nI n) (nI (c + 1)) fw fb fu fc f (nI i) kA vA kB vB pa fo ed me mp di dp fi bl bb be sa sp := by
  intro d
  induction d with
  | zero =>
    intro i hi di dp h f hf
    cases f with
    | zero => omega
    | succ f =>
      have hin : vp_in (nI (c + 1)) 6 := vp_in_nI (by omega) (by decide)
      have hcl : (nI (c + 1)).toNatClampNeg = c + 1 := nI_clamp (by omega)
      have hi8 : i = 8 := by omega
      rw [hi8] at h ⊢
      unfold wX_restore_110
      rw [hcl]
      exact br_t (Int32.le_refl _) ⟨hin, nm_e ⟨hin, nm_e ⟨hin, nm_e (nm_r (nI_1 (c + 1)) (K di dp h))⟩⟩⟩
  | succ d ih =>
    intro i hi di dp h f hf
    cases f with
    | zero => omega
    | succ f =>
      have hin : vp_in (nI i) 8 := vp_in_nI (by omega) (by decide)
      have hcl : (nI i).toNatClampNeg = i := nI_clamp (by omega)
      unfold wX_restore_110
      rw [hcl]
      refine br_f (nI_ge (b := 8) (by omega) (by decide)) ⟨hin, hin, nm_e ⟨hin, hin, nm_e (nm_r (nI_1 i) (ih (i + 1) (by omega) _ _ (fun k hk => ?_) f (by omega)))⟩⟩
      by_cases hki : k = i
      · rw [hki]
        exact ⟨pk_us, pk_us⟩
      · rw [pk_un hki, pk_un hki]
        exact h k (by omega)
theorem pt_restore_34 {post : Int32 → SX → Prop} {x : Int32} (C : pt_Co c en pr fk E kA vA kB vB pa fo ed vs) (hc : c < 5) (ht : t ≤ c) (hn : n ≤ en t) (hx : pt_us t n sa sp vs x)
    (K : ∀ me' mp' di' dp' : Nat → Int32, pt_Me t n me' mp' vs → (∀ k, k < 8 → di' k = me' k ∧ dp' k = mp' k) → post (nI (c + 1)) (nI (c + 1 + 1), nI (c + 1), fb, 0, fc, kA, vA, kB, vB, upd pa (c + 1) (nI t), upd fo (c + 1) (nI n), upd ed (c + 1) (nI n), me', mp', di', dp', fi, bl, bb, be, sa, sp)) :
    ∀ d i : Nat, i + d = 8 → ∀ me mp : Nat → Int32, (∀ k, k < i → pt_cell vs t n k (me k) (mp k)) → ∀ f : Nat, d < f → wX_restore_34 post (nI t) (nI n) x (nI (c + 1)) fw fb fu fc f (nI i) kA vA kB vB pa fo ed me mp di dp fi bl bb be sa sp := by
  intro d
  induction d with
  | zero =>
    intro i hi me mp h f hf
    cases f with
    | zero => omega
    | succ f =>
      have hi8 : i = 8 := by omega
      rw [hi8] at h ⊢
      refine br_t (Int32.le_refl _) (pt_redo C ht hn h fun me' mp' hM => ?_)
      exact ⟨9, pt_restore_110 hc (fun di' dp' h' => K me' mp' di' dp' hM h') 8 0 rfl di dp (fun k hk => absurd hk (Nat.not_lt_zero k)) 9 (by omega)⟩
  | succ d ih =>
    intro i hi me mp h f hf
    cases f with
    | zero => omega
    | succ f =>
      have hin : vp_in (nI i) 8 := vp_in_nI (by omega) (by decide)
      have hcl : (nI i).toNatClampNeg = i := nI_clamp (by omega)
      have hgo : ∀ y z : Int32, pt_cell vs t n i y z → wX_restore_34 post (nI t) (nI n) x (nI (c + 1)) fw fb fu fc f (nI (i + 1)) kA vA kB vB pa fo ed (upd me i y) (upd mp i z) di dp fi bl bb be sa sp := by
        intro y z hcell
        refine ih (i + 1) (by omega) _ _ (fun k hk => ?_) f (by omega)
        by_cases hki : k = i
        · rw [hki, pk_us, pk_us]
          exact hcell
        · rw [pk_un hki, pk_un hki]
          exact h k (by omega)
      refine br_f (nI_ge (b := 8) (by omega) (by decide)) ?_
      rcases hx with rfl | ⟨b, hb, rfl, hS⟩
      · refine br_f (by decide) ?_
        unfold wX_restore_67
        rw [hcl]
        exact ⟨hin, nm_e (br_f (by decide) ⟨hin, nm_e (nm_r (nI_1 i) (hgo 0 0 ⟨0, Nat.zero_le n, rfl, (C.2.2.2.1 t i ht (by omega)).symm⟩))⟩)⟩
      · have hi2 : vp_in (nI (b * 8 + i)) 32 := vp_in_nI (by omega) (by decide)
        have hc2 : (nI (b * 8 + i)).toNatClampNeg = b * 8 + i := nI_clamp (by omega)
        have hb0 : (0 : Int32) ≤ nI b := nI_pos' (by omega)
        rw [pt_i8, hc2]
        refine br_t hb0 ⟨hi2, ?_⟩
        unfold wX_restore_67
        rw [hcl, pt_i8, hc2]
        exact ⟨hin, nm_e (br_t hb0 ⟨hi2, hin, nm_e (nm_r (nI_1 i) (hgo _ _ (hS i (by omega))))⟩)⟩
theorem pt_xrestore {post : Int32 → SX → Prop} (C : pt_Co c en pr fk E kA vA kB vB pa fo ed vs) (B : pt_Ba c en fi bl be sa sp vs) (hc : c < 5) (ht : t ≤ c) (hn : n ≤ en t)
    (K : ∀ me' mp' di' dp' : Nat → Int32, pt_Me t n me' mp' vs → (∀ k, k < 8 → di' k = me' k ∧ dp' k = mp' k) → post (nI (c + 1)) (nI (c + 1 + 1), nI (c + 1), fb, 0, fc, kA, vA, kB, vB, upd pa (c + 1) (nI t), upd fo (c + 1) (nI n), upd ed (c + 1) (nI n), me', mp', di', dp', fi, bl, bb, be, sa, sp)) :
    wpX_restore post (nI (c + 1), fw, fb, fu, fc, kA, vA, kB, vB, pa, fo, ed, me, mp, di, dp, fi, bl, bb, be, sa, sp) (nI t) (nI n) := by
  unfold wpX_restore
  refine pt_xnp_ok C.1 ht hn (br_t rfl (br_f (pt_ne (c + 1) 6 (by omega)) ?_))
  exact pt_usable C.1 C.2.1 B ht hn fun x hx => ⟨9, pt_restore_34 C hc ht hn hx K 8 0 rfl me mp (fun k hk => absurd hk (Nat.not_lt_zero k)) 9 (by omega)⟩
/-! the reference -/
/-- the first i values of timeline t are copied to timeline c + 1 -/
def pt_rc (vs vs' : Nat → Int32) (c t i : Nat) : Prop := (∀ j, j < i → vs' (248 * (c + 1) + j) = vs (248 * t + j)) ∧ ∀ j, j < 248 * (c + 1) → vs' j = vs j
theorem pt_yres_26 {post : Int32 → SY → Prop} (hc : c < 5) (ht : t ≤ c) (hn : n ≤ 30)
    (K : ∀ vs', pt_rc vs vs' c t (8 * n + 8) → post (nI (c + 1)) (nI (c + 1 + 1), vs', upd ed (c + 1) (nI n))) :
    ∀ d i : Nat, i + d = 8 * n + 8 → ∀ vs', pt_rc vs vs' c t i → ∀ f : Nat, d < f → wY_restore_26 post (nI t) (nI n) (nI (c + 1)) f (nI i) vs' ed := by
  have e8 : (8 : Int32) * nI n + 8 = nI (8 * n + 8) := by rw [show (8 : Int32) = nI 8 from rfl, pk_mul, nI_add]
  intro d
  induction d with
  | zero =>
    intro i hi vs' h f hf
    cases f with
    | zero => omega
    | succ f =>
      have hin : vp_in (nI (c + 1)) 6 := vp_in_nI (by omega) (by decide)
      have hcl : (nI (c + 1)).toNatClampNeg = c + 1 := nI_clamp (by omega)
      have hi8 : i = 8 * n + 8 := by omega
      rw [hi8] at h ⊢
      unfold wY_restore_26
      rw [hcl, e8]
      refine br_t (Int32.le_refl _) ⟨hin, nm_e (nm_r (nI_1 (c + 1)) ?_)⟩
      rw [pt_m1]
      exact K vs' h
  | succ d ih =>
    intro i hi vs' h f hf
    cases f with
    | zero => omega
    | succ f =>
      have e1 : (248 : Int32) * nI t + nI i = nI (248 * t + i) := by rw [show (248 : Int32) = nI 248 from rfl, pk_mul, nI_add]
      have e2 : (248 : Int32) * nI (c + 1) + nI i = nI (248 * (c + 1) + i) := by rw [show (248 : Int32) = nI 248 from rfl, pk_mul, nI_add]
      unfold wY_restore_26
      rw [e1, e2, e8, nI_clamp (n := 248 * t + i) (by omega), nI_clamp (n := 248 * (c + 1) + i) (by omega)]
      refine br_f (nI_ge (by omega) (by omega)) ⟨vp_in_nI (by omega) (by decide), vp_in_nI (by omega) (by decide), nm_e (nm_r (nI_1 i) (ih (i + 1) (by omega) _ ⟨fun j hj => ?_, fun j hj => ?_⟩ f (by omega)))⟩
      · by_cases hji : j = i
        · rw [hji, pk_us]
          exact h.2 (248 * t + i) (by omega)
        · rw [pk_un (by omega)]
          exact h.1 j (by omega)
      · rw [pk_un (by omega)]
        exact h.2 j hj
theorem pt_yrestore {post : Int32 → SY → Prop} (hE : pt_En c en fk fo ed) (hc : c < 5) (ht : t ≤ c) (hn : n ≤ en t)
    (K : ∀ vs', pt_rc vs vs' c t (8 * n + 8) → post (nI (c + 1)) (nI (c + 1 + 1), vs', upd ed (c + 1) (nI n))) : wpY_restore post (nI (c + 1), vs, ed) (nI t) (nI n) := by
  have h30 := (hE.2.2 t ht).1
  unfold wpY_restore
  refine pt_yip_ok hE ht hn (br_f (by decide) (br_f (pt_ne (c + 1) 6 (by omega)) ?_))
  exact ⟨8 * n + 9, pt_yres_26 hc ht (by omega) K (8 * n + 8) 0 (by omega) vs ⟨fun j hj => absurd hj (Nat.not_lt_zero j), fun j _ => rfl⟩ (8 * n + 9) (by omega)⟩
end
section
variable {ft fw fb fu fc : Int32} {kA vA kB vB pa fo ed me mp di dp fi bl bb be sa sp : Nat → Int32}
variable {vs vs' : Nat → Int32} {c nb : Nat} {en pr fk : Nat → Nat} {E : Nat → Nat → Nat} {t n : Nat} {me' mp' di' dp' : Nat → Int32}
def pt_E' (E : Nat → Nat → Nat) (c t n : Nat) : Nat → Nat → Nat := fun s p => if s = c then (if p ≤ n then E t p else c) else E s p
theorem pt_E'_o {s p : Nat} (h : s ≠ c) : pt_E' E c t n s p = E s p := if_neg h
theorem pt_E'_l {p : Nat} (h : p ≤ n) : pt_E' E c t n c p = E t p := (if_pos rfl).trans (if_pos h)
theorem pt_E'_g {p : Nat} (h : ¬ p ≤ n) : pt_E' E c t n c p = c := (if_pos rfl).trans (if_neg h)
theorem pt_rc_1 (h : pt_rc vs vs' c t (8 * n + 8)) {s q k : Nat} (hs : s ≤ c) (hq : q ≤ 30) (hk : k < 8) : pt_V vs' s q k = pt_V vs s q k := h.2 _ (by omega)
theorem pt_rc_2 (h : pt_rc vs vs' c t (8 * n + 8)) {q k : Nat} (hq : q ≤ n) (hk : k < 8) : pt_V vs' (c + 1) q k = pt_V vs t q k := by
  have h1 := h.1 (8 * q + k) (by omega)
  rw [← Nat.add_assoc, ← Nat.add_assoc] at h1
  exact h1
theorem pt_rs_En (hE : pt_En c en fk fo ed) (hc : c < 5) (hn : n ≤ 30) : pt_En (c + 1) (pt_en en (c + 1) n) (pt_en fk (c + 1) n) (upd fo (c + 1) (nI n)) (upd ed (c + 1) (nI n)) := by
  refine ⟨by omega, (pt_en_n (by omega)).trans hE.2.1, fun s hs => ?_⟩
  by_cases h : s = c + 1
  · rw [h, pt_en_c, pt_en_c, pk_us, pk_us]
    exact ⟨hn, rfl, rfl, Nat.le_refl n⟩
  · rw [pt_en_n h, pt_en_n h, pk_un h, pk_un h]
    exact hE.2.2 s (by omega)
theorem pt_rs_Pa (hE : pt_En c en fk fo ed) (hP : pt_Pa c pr fk pa vs) (ht : t ≤ c) (hn : n ≤ 30) (h : pt_rc vs vs' c t (8 * n + 8)) :
    pt_Pa (c + 1) (pt_en pr (c + 1) t) (pt_en fk (c + 1) n) (upd pa (c + 1) (nI t)) vs' := by
  refine ⟨(pk_un (by omega)).trans hP.1, fun s h0 hs => ?_⟩
  by_cases hsc : s = c + 1
  · rw [hsc, pt_en_c, pt_en_c, pk_us]
    refine ⟨by omega, rfl, fun q k hq hk => ?_⟩
    rw [pt_rc_2 h hq hk, pt_rc_1 h ht (by omega) hk]
  · rw [pt_en_n hsc, pt_en_n hsc, pk_un hsc]
    obtain ⟨h1, h2, h3⟩ := hP.2 s h0 (by omega)
    refine ⟨h1, h2, fun q k hq hk => ?_⟩
    obtain ⟨g1, _, _, g2⟩ := hE.2.2 s (by omega)
    rw [pt_rc_1 h (by omega) (by omega) hk, pt_rc_1 h (by omega) (by omega) hk]
    exact h3 q k hq hk
theorem pt_rs_E (hO : pt_E c pr fk E) (hP : pt_Pa c pr fk pa vs) (ht : t ≤ c) : pt_E (c + 1) (pt_en pr (c + 1) t) (pt_en fk (c + 1) n) (pt_E' E (c + 1) t n) := by
  intro s hs p
  by_cases hsc : s = c + 1
  · rw [hsc, pt_en_c, pt_en_c]
    by_cases hp : p ≤ n
    · rw [pt_E'_l hp, pt_E'_o (by omega)]
      have := (hO t ht p).1
      exact ⟨by omega, fun z => absurd hp (by omega), fun _ _ => rfl⟩
    · rw [pt_E'_g hp]
      exact ⟨Nat.le_refl _, fun _ => rfl, fun _ z => absurd z hp⟩
  · rw [pt_en_n hsc, pt_en_n hsc, pt_E'_o hsc]
    obtain ⟨h1, h2, h3⟩ := hO s (by omega) p
    refine ⟨h1, h2, fun h0 hp => ?_⟩
    have := (hP.2 s h0 (by omega)).1
    rw [pt_E'_o (by omega)]
    exact h3 h0 hp
theorem pt_rs_Lg (hE : pt_En c en fk fo ed) (hL : pt_Lg c en E kA vA kB vB vs) (ht : t ≤ c) (hn : n ≤ en t) (h : pt_rc vs vs' c t (8 * n + 8)) :
    pt_Lg (c + 1) (pt_en en (c + 1) n) (pt_E' E (c + 1) t n) kA vA kB vB vs' := by
  have h30 := (hE.2.2 t ht).1
  refine ⟨fun s k hs hk => ?_, fun s p hs hp => ?_⟩
  · by_cases hsc : s = c + 1
    · rw [hsc, pt_rc_2 h (Nat.zero_le n) hk]
      exact hL.1 t k ht hk
    · rw [pt_rc_1 h (by omega) (Nat.zero_le 30) hk]
      exact hL.1 s k (by omega) hk
  · by_cases hsc : s = c + 1
    · rw [hsc, pt_en_c] at hp
      rw [hsc, pt_E'_l (by omega)]
      obtain ⟨s1, s2, s3⟩ := hL.2 t p ht (by omega)
      refine ⟨s1, s2, fun k hk => ?_⟩
      rw [pt_rc_2 h (by omega) hk, pt_rc_2 h (by omega) hk]
      exact s3 k hk
    · rw [pt_en_n hsc] at hp
      rw [pt_E'_o hsc]
      have g30 := (hE.2.2 s (by omega)).1
      obtain ⟨s1, s2, s3⟩ := hL.2 s p (by omega) hp
      refine ⟨s1, s2, fun k hk => ?_⟩
      rw [pt_rc_1 h (by omega) (by omega) hk, pt_rc_1 h (by omega) (by omega) hk]
      exact s3 k hk
theorem pt_R_restore (C : pt_Co c en pr fk E kA vA kB vB pa fo ed vs) (B : pt_Ba c en fi bl be sa sp vs) (hnb : nb < 4) (hc : c < 5) (ht : t ≤ c) (hn : n ≤ en t)
    (h : pt_rc vs vs' c t (8 * n + 8)) (M : pt_Me t n me' mp' vs) (D : ∀ k, k < 8 → di' k = me' k ∧ dp' k = mp' k) :
    pt_R (nI (c + 1 + 1)) (nI (c + 1)) (nI nb) 0 fc kA vA kB vB (upd pa (c + 1) (nI t)) (upd fo (c + 1) (nI n)) (upd ed (c + 1) (nI n)) me' mp' di' dp' fi bl bb be sa sp (nI (c + 1 + 1)) vs' (upd ed (c + 1) (nI n)) := by
  obtain ⟨hE, hP, hO, hL⟩ := C
  have h30 := (hE.2.2 t ht).1
  have hM : pt_Me (c + 1) n me' mp' vs' := by
    refine ⟨fun k hk => pt_cell_tr (M.1 k hk) fun p hp => pt_rc_2 h hp hk, fun k hk => ?_⟩
    rw [pt_rc_2 h (Nat.le_refl n) hk]
    exact M.2 k hk
  refine ⟨c + 1, pt_en en (c + 1) n, pt_en pr (c + 1) t, pt_en fk (c + 1) n, pt_E' E (c + 1) t n, nb, rfl, rfl, rfl, hnb, rfl, rfl,
    ⟨pt_rs_En hE hc (by omega), pt_rs_Pa hE hP ht (by omega) h, pt_rs_E hO hP ht, pt_rs_Lg hE hL ht hn h⟩, ?_, ?_, ?_, fun z => absurd rfl z⟩
  · rw [pt_en_c]
    exact hM
  · rw [pt_en_c]
    intro k hk
    rw [(D k hk).1, (D k hk).2]
    exact hM.1 k hk
  · intro b hb hf
    obtain ⟨l, e, g1, g2, g3, g4, g5⟩ := B b hb hf
    have g30 := (hE.2.2 l g1).1
    refine ⟨l, e, by omega, ?_, g3, g4, fun k hk => pt_cell_tr (g5 k hk) fun p hp => pt_rc_1 h g1 (by omega) hk⟩
    rw [pt_en_n (by omega)]
    exact g2
end
theorem i_vc_restore {k : Nat} {u : SX} {v : SY} (I : i_Rel k u v) (hk : k + 4 ≤ 2048) (v1 : Int32) (v2 : Int32) : wpX_restore (fun r u' => wpY_restore (fun r' v' => r' = r ∧ i_Rel (k + 4) u' v') v v1 v2) u v1 v2 := by
  refine pt_el (P := fun u v => wpX_restore (fun r u' => wpY_restore (fun r' v' => r' = r ∧ i_Rel (k + 4) u' v') v v1 v2) u v1 v2) I ?_
  intro ft fw fb fu fc kA vA kB vB pa fo ed me mp di dp fi bl bb be sa sp gt vs la R
  obtain ⟨c, en, pr, fk, E, nb, rfl, rfl, rfl, hnb, rfl, hla, C, M, D, B, U⟩ := id R
  subst hla
  by_cases hp : pt_pt c en v1 v2
  · obtain ⟨t, n, ht, hn, rfl, rfl⟩ := hp
    rcases Nat.lt_or_ge c 5 with hc | hc
    · exact pt_xrestore C B hc ht hn fun me' mp' di' dp' hM hD => pt_yrestore C.1 hc ht hn fun vs' h => ⟨rfl, pt_R_restore (fc := fc) (bb := bb) C B hnb hc ht hn h hM hD⟩
    · have hc5 : c = 5 := Nat.le_antisymm C.1.1 hc
      have h6 : nI (c + 1) = 6 := by rw [hc5]; rfl
      unfold wpX_restore
      refine pt_xnp_ok C.1 ht hn (br_t rfl (br_t h6 ?_))
      unfold wpY_restore
      exact pt_yip_ok C.1 ht hn (br_f (by decide) (br_t h6 ⟨rfl, R⟩))
  · unfold wpX_restore
    refine pt_xnp_no C.1 hp (br_f (by decide) ?_)
    unfold wpY_restore
    exact pt_yip_no C.1 hp (br_t rfl ⟨rfl, R⟩)
end
section
section
variable {ft fw fb fu fc : Int32} {kA vA kB vB pa fo ed me mp di dp fi bl bb be sa sp : Nat → Int32}
variable {vs : Nat → Int32} {c nb : Nat} {en pr fk : Nat → Nat} {E : Nat → Nat → Nat}
/-! crash -/
theorem pt_crash_2 {post : Int32 → SX → Prop} (C : pt_Co c en pr fk E kA vA kB vB pa fo ed vs) (D : pt_Di c (en c) di dp vs)
    (K : ∀ me' mp' : Nat → Int32, pt_Me c (en c) me' mp' vs → post 0 (ft, nI c, fb, 0, fc, kA, vA, kB, vB, pa, fo, ed, me', mp', di, dp, fi, bl, bb, be, sa, sp)) :
    ∀ d i : Nat, i + d = 8 → ∀ me mp : Nat → Int32, (∀ k, k < i → me k = di k ∧ mp k = dp k) → ∀ f : Nat, d < f → wX_crash_2 post ft (nI c) fb fu fc f (nI i) kA vA kB vB pa fo ed me mp di dp fi bl bb be sa sp := by
  have hc := C.1.1
  have hed := (C.1.2.2 c (Nat.le_refl c)).2.1
  intro d
  induction d with
  | zero =>
    intro i hi me mp h f hf
    cases f with
    | zero => omega
    | succ f =>
      have hi8 : i = 8 := by omega
      rw [hi8] at h ⊢
      refine br_t (Int32.le_refl _) ⟨vp_in_nI (by omega) (by decide), ?_⟩
      rw [nI_clamp (by omega), hed]
      refine pt_redo C (Nat.le_refl c) (Nat.le_refl _) (fun k hk => ?_) (fun me' mp' hM => K me' mp' hM)
      rw [(h k hk).1, (h k hk).2]
      exact D k hk
  | succ d ih =>
    intro i hi me mp h f hf
    cases f with
    | zero => omega
    | succ f =>
      have hin : vp_in (nI i) 8 := vp_in_nI (by omega) (by decide)
      have hcl : (nI i).toNatClampNeg = i := nI_clamp (by omega)
      unfold wX_crash_2
      rw [hcl]
      refine br_f (nI_ge (b := 8) (by omega) (by decide)) ⟨hin, hin, nm_e ⟨hin, hin, nm_e (nm_r (nI_1 i) (ih (i + 1) (by omega) _ _ (fun k hk => ?_) f (by omega)))⟩⟩
      by_cases hki : k = i
      · rw [hki]
        exact ⟨pk_us, pk_us⟩
      · rw [pk_un hki, pk_un hki]
        exact h k (by omega)
theorem pt_crash {post : Int32 → SX → Prop} (C : pt_Co c en pr fk E kA vA kB vB pa fo ed vs) (D : pt_Di c (en c) di dp vs)
    (K : ∀ me' mp' : Nat → Int32, pt_Me c (en c) me' mp' vs → post 0 (ft, nI c, fb, 0, fc, kA, vA, kB, vB, pa, fo, ed, me', mp', di, dp, fi, bl, bb, be, sa, sp)) : wpX_crash post (ft, nI c, fb, fu, fc, kA, vA, kB, vB, pa, fo, ed, me, mp, di, dp, fi, bl, bb, be, sa, sp) :=
  ⟨9, pt_crash_2 C D K 8 0 rfl me mp (fun k hk => absurd hk (Nat.not_lt_zero k)) 9 (by omega)⟩
/-! writing out -/
theorem pt_writeOut_4 {post : Int32 → SX → Prop} {t n : Nat} (M : pt_Di t n me mp vs)
    (K : ∀ (r : Int32) (di' dp' : Nat → Int32), pt_Di t n di' dp' vs → post r (ft, fw, fb, fu, fc, kA, vA, kB, vB, pa, fo, ed, me, mp, di', dp', fi, bl, bb, be, sa, sp)) :
    ∀ d i : Nat, i + d = 8 → ∀ (x : Int32) (di dp : Nat → Int32), pt_Di t n di dp vs → ∀ f : Nat, d < f → wX_writeOut_4 post ft fw fb fu fc f x (nI i) kA vA kB vB pa fo ed me mp di dp fi bl bb be sa sp := by
  intro d
  induction d with
  | zero =>
    intro i hi x di dp h f hf
    cases f with
    | zero => omega
    | succ f => exact br_t (nI_le (a := 8) (by omega) (by omega)) (K x di dp h)
  | succ d ih =>
    intro i hi x di dp h f hf
    cases f with
    | zero => omega
    | succ f =>
      have hin : vp_in (nI i) 8 := vp_in_nI (by omega) (by decide)
      have hcl : (nI i).toNatClampNeg = i := nI_clamp (by omega)
      unfold wX_writeOut_4
      rw [hcl]
      refine br_f (nI_ge (b := 8) (by omega) (by decide)) (br_c (fun _ => K x di dp h) fun _ => ⟨hin, hin, br_c (fun _ => ?_) fun _ => ?_⟩)
      · exact nm_r (nI_1 i) (ih (i + 1) (by omega) x di dp h f (by omega))
      · refine ⟨hin, hin, nm_e ⟨hin, hin, nm_e (nm_e (nm_r (nI_1 i) (ih (i + 1) (by omega) _ _ _ (fun k hk => ?_) f (by omega))))⟩⟩
        by_cases hki : k = i
        · rw [hki, pk_us, pk_us]
          exact M i (by omega)
        · rw [pk_un hki, pk_un hki]
          exact h k hk
theorem pt_writeOut {post : Int32 → SX → Prop} {t n : Nat} {x : Int32} (M : pt_Di t n me mp vs) (D : pt_Di t n di dp vs)
    (K : ∀ (r : Int32) (di' dp' : Nat → Int32), pt_Di t n di' dp' vs → post r (ft, fw, fb, fu, fc, kA, vA, kB, vB, pa, fo, ed, me, mp, di', dp', fi, bl, bb, be, sa, sp)) : wpX_writeOut post (ft, fw, fb, fu, fc, kA, vA, kB, vB, pa, fo, ed, me, mp, di, dp, fi, bl, bb, be, sa, sp) x :=
  ⟨9, pt_writeOut_4 M K 8 0 rfl x di dp D 9 (by omega)⟩
/-! backups -/
theorem pt_nar0 : vp_nar .boolean 0 = 0 := rfl
theorem pt_nar1 : ¬ vp_nar .boolean 1 = 0 := by decide
/-- the state of the backups while one is under way, its first m keys copied -/
def pt_Bw (c : Nat) (en : Nat → Nat) (nb m : Nat) (fi bl be sa sp vs : Nat → Int32) : Prop :=
  pt_Ba c en fi bl be sa sp vs ∧ fi nb = 0 ∧ bl nb = nI c ∧ pt_Sl c (en c) nb m sa sp vs
/-- what the relation wants of the backups -/
def pt_Bk (c : Nat) (en : Nat → Nat) (fb fu fc : Int32) (fi bl be sa sp vs : Nat → Int32) : Prop :=
  ∃ nb, nb < 4 ∧ fb = nI nb ∧ pt_Ba c en fi bl be sa sp vs ∧ pt_Uw c en nb fu fc fi bl sa sp vs
theorem pt_begin {post : SX → Prop} (hc : c ≤ 5) (hnb : nb < 4) (M : pt_Di c (en c) me mp vs) (D : pt_Di c (en c) di dp vs) (B : pt_Ba c en fi bl be sa sp vs)
    (K : ∀ di' dp' fi' bl' bb' : Nat → Int32, pt_Di c (en c) di' dp' vs → pt_Bw c en nb 0 fi' bl' be sa sp vs → post (ft, nI c, nI nb, 1, 0, kA, vA, kB, vB, pa, fo, ed, me, mp, di', dp', fi', bl', bb', be, sa, sp)) :
    wpX_beginBackup post (ft, nI c, nI nb, fu, fc, kA, vA, kB, vB, pa, fo, ed, me, mp, di, dp, fi, bl, bb, be, sa, sp) := by
  unfold wpX_beginBackup
  refine pt_writeOut M D fun r di' dp' hD => ?_
  have hin : vp_in (nI nb) 4 := vp_in_nI hnb (by decide)
  have hcl : (nI nb).toNatClampNeg = nb := nI_clamp (by omega)
  dsimp only
  rw [hcl]
  refine ⟨hin, nm_e ⟨hin, nm_e ⟨vp_in_nI (by omega) (by decide), hin, nm_e (K di' dp' _ _ _ hD ⟨fun b hb hf => ?_, pk_us, pk_us, fun k hk => absurd hk (Nat.not_lt_zero k)⟩)⟩⟩⟩
  by_cases hbn : b = nb
  · rw [hbn, pk_us] at hf
    exact absurd pt_nar0 hf
  · rw [pk_un hbn] at hf ⊢
    exact B b hb hf
theorem pt_Bw_step {m : Nat} {x y : Int32} (hm : m < 8) (h : pt_Bw c en nb m fi bl be sa sp vs) (hx : pt_cell vs c (en c) m x y) :
    pt_Bw c en nb (m + 1) fi bl be (upd sa (nb * 8 + m) x) (upd sp (nb * 8 + m) y) vs := by
  obtain ⟨h1, h2, h3, h4⟩ := h
  refine ⟨fun b hb hf => ?_, h2, h3, fun k hk => ?_⟩
  · obtain ⟨l, e, g1, g2, g3, g4, g5⟩ := h1 b hb hf
    refine ⟨l, e, g1, g2, g3, g4, fun k hk => ?_⟩
    have hbn : b ≠ nb := fun z => hf (z ▸ h2)
    have hne : b * 8 + k ≠ nb * 8 + m := by omega
    rw [pk_un hne, pk_un hne]
    exact g5 k hk
  · by_cases hkm : k = m
    · rw [hkm, pk_us, pk_us]
      exact hx
    · have hne : nb * 8 + k ≠ nb * 8 + m := by omega
      rw [pk_un hne, pk_un hne]
      exact h4 k (by omega)
theorem pt_nb : ∀ nb, nb < 4 → (nI nb + 1) &&& 3 = nI ((nb + 1) % 4) := by
  intro nb hnb
  rw [nI_1]
  exact pk_andN (by omega) 2 (by decide)
theorem pt_backup_107 {post : Int32 → SX → Prop} {m : Nat} (hc : c ≤ 5) (hnb : nb < 4) (hed : ed c = nI (en c)) (hm : m ≤ 8) (hu : ¬ fu = 0) (h : pt_Bw c en nb m fi bl be sa sp vs)
    (K : ∀ (fb' fu' : Int32) (fi' be' : Nat → Int32), pt_Bk c en fb' fu' (nI m) fi' bl be' sa sp vs → post 0 (ft, nI c, fb', fu', nI m, kA, vA, kB, vB, pa, fo, ed, me, mp, di, dp, fi', bl, bb, be', sa, sp)) :
    wX_backup_107 post ft (nI c) (nI nb) fu (nI m) kA vA kB vB pa fo ed me mp di dp fi bl bb be sa sp := by
  have hin : vp_in (nI nb) 4 := vp_in_nI hnb (by decide)
  have hcl : (nI nb).toNatClampNeg = nb := nI_clamp (by omega)
  obtain ⟨h1, h2, h3, h4⟩ := h
  unfold wX_backup_107
  rw [hcl]
  refine pk_eq m 8 (fun hm8 => ?_) (fun hm8 => ?_) rfl rfl (by omega) (by omega)
  · refine ⟨hin, nm_e ⟨vp_in_nI (by omega) (by decide), hin, ?_⟩⟩
    rw [nI_clamp (by omega : c < 2 ^ 31), hed]
    refine nm_e (nm_r (pt_nb nb hnb) (K _ _ _ _ ⟨(nb + 1) % 4, Nat.mod_lt _ (by decide), rfl, fun b hb hf => ?_, fun z => absurd rfl z⟩))
    by_cases hbn : b = nb
    · rw [hbn, pk_us]
      rw [hm8] at h4
      exact ⟨c, en c, Nat.le_refl c, Nat.le_refl _, h3, rfl, h4⟩
    · rw [pk_un hbn] at hf ⊢
      exact h1 b hb hf
  · exact K _ _ _ _ ⟨nb, hnb, rfl, h1, fun _ => ⟨m, by omega, rfl, h2, h3, h4⟩⟩
theorem pt_backup_25 {post : Int32 → SX → Prop} {w : Nat} (hc : c ≤ 5) (hnb : nb < 4) (hed : ed c = nI (en c)) (hw : w ≤ 8) (hu : ¬ fu = 0) (D : pt_Di c (en c) di dp vs)
    (K : ∀ (fb' fu' fc' : Int32) (fi' be' sa' sp' : Nat → Int32), pt_Bk c en fb' fu' fc' fi' bl be' sa' sp' vs → post 0 (ft, nI c, fb', fu', fc', kA, vA, kB, vB, pa, fo, ed, me, mp, di, dp, fi', bl, bb, be', sa', sp')) :
    ∀ d i : Nat, i + d = w → ∀ m : Nat, m ≤ 8 → ∀ sa sp : Nat → Int32, pt_Bw c en nb m fi bl be sa sp vs → ∀ f : Nat, d < f → wX_backup_25 post (nI w) ft (nI c) (nI nb) fu f (nI i) (nI m) kA vA kB vB pa fo ed me mp di dp fi bl bb be sa sp := by
  intro d
  induction d with
  | zero =>
    intro i hi m hm sa sp h f hf
    cases f with
    | zero => omega
    | succ f => exact br_t (nI_le (by omega) (by omega)) (pt_backup_107 hc hnb hed hm hu h fun fb' fu' fi' be' hB => K fb' fu' _ fi' be' _ _ hB)
  | succ d ih =>
    intro i hi m hm sa sp h f hf
    cases f with
    | zero => omega
    | succ f =>
      unfold wX_backup_25
      refine br_f (nI_ge (by omega) (by omega)) (pk_le 8 m (fun _ => ?_) (fun hm8 => ?_) rfl rfl (by omega) (by omega))
      · exact pt_backup_107 hc hnb hed hm hu h fun fb' fu' fi' be' hB => K fb' fu' _ fi' be' _ _ hB
      · have hin : vp_in (nI m) 8 := vp_in_nI hm8 (by decide)
        have hi2 : vp_in (nI (nb * 8 + m)) 32 := vp_in_nI (by omega) (by decide)
        rw [pt_i8, nI_clamp (by omega), nI_clamp (by omega)]
        exact ⟨hin, hi2, nm_e ⟨hin, hi2, nm_e (nm_r (nI_1 m) (nm_r (nI_1 i) (ih (i + 1) (by omega) (m + 1) hm8 _ _ (pt_Bw_step hm8 h (D m hm8)) f (by omega))))⟩⟩
theorem pt_backup {post : Int32 → SX → Prop} {w : Nat} (hc : c ≤ 5) (hnb : nb < 4) (hed : ed c = nI (en c)) (hw : w ≤ 8) (M : pt_Di c (en c) me mp vs) (D : pt_Di c (en c) di dp vs)
    (B : pt_Ba c en fi bl be sa sp vs) (U : pt_Uw c en nb fu fc fi bl sa sp vs)
    (K : ∀ (fb' fu' fc' : Int32) (di' dp' fi' bl' bb' be' sa' sp' : Nat → Int32), pt_Di c (en c) di' dp' vs → pt_Bk c en fb' fu' fc' fi' bl' be' sa' sp' vs → post 0 (ft, nI c, fb', fu', fc', kA, vA, kB, vB, pa, fo, ed, me, mp, di', dp', fi', bl', bb', be', sa', sp')) :
    wpX_backup post (ft, nI c, nI nb, fu, fc, kA, vA, kB, vB, pa, fo, ed, me, mp, di, dp, fi, bl, bb, be, sa, sp) (nI w) := by
  unfold wpX_backup
  refine br_f (nI_pos (by omega)) (br_t (nI_le (b := 8) hw (by decide)) (br_c (fun hu => ?_) (fun hu => ?_)))
  · refine pt_begin hc hnb M D B fun di' dp' fi' bl' bb' hD hB => ?_
    exact ⟨w + 1, pt_backup_25 hc hnb hed hw (by decide) hD (fun fb' fu' fc' fi'' be' sa' sp' hK => K fb' fu' fc' di' dp' fi'' bl' bb' be' sa' sp' hD hK) w 0 (by omega) 0 (by omega) sa sp hB (w + 1) (by omega)⟩
  · obtain ⟨m, h1, rfl, h3, h4, h5⟩ := U hu
    exact ⟨w + 1, pt_backup_25 hc hnb hed hw hu D (fun fb' fu' fc' fi'' be' sa' sp' hK => K fb' fu' fc' di dp fi'' bl bb be' sa' sp' D hK) w 0 (by omega) m (by omega) sa sp ⟨B, h3, h4, h5⟩ (w + 1) (by omega)⟩
end
theorem pt_many (x : Int32) : x < 0 ∨ (¬ x < 0 ∧ ¬ x ≤ 8) ∨ ∃ w, w ≤ 8 ∧ x = nI w := by
  by_cases h0 : x < 0
  · exact Or.inl h0
  · by_cases h8 : x ≤ 8
    · exact Or.inr (Or.inr (nI_of2 (M := 8) (n := 8) (by decide) h0 h8))
    · exact Or.inr (Or.inl ⟨h0, h8⟩)
theorem i_vc_crash {k : Nat} {u : SX} {v : SY} (I : i_Rel k u v) (hk : k + 4 ≤ 2048) : wpX_crash (fun r u' => wpY_crash (fun r' => r' = r ∧ i_Rel (k + 4) u' v) v) u := by
  refine pt_el (P := fun u v => wpX_crash (fun r u' => wpY_crash (fun r' => r' = r ∧ i_Rel (k + 4) u' v) v) u) I ?_
  intro ft fw fb fu fc kA vA kB vB pa fo ed me mp di dp fi bl bb be sa sp gt vs la R
  obtain ⟨c, en, pr, fk, E, nb, rfl, rfl, rfl, hnb, rfl, hla, C, M, D, B, U⟩ := R
  subst hla
  exact pt_crash C D fun me' mp' hM => ⟨rfl, c, en, pr, fk, E, nb, rfl, rfl, rfl, hnb, rfl, rfl, C, hM, D, B, fun z => absurd rfl z⟩
theorem i_vc_backup {k : Nat} {u : SX} {v : SY} (I : i_Rel k u v) (hk : k + 4 ≤ 2048) (v1 : Int32) : wpX_backup (fun r u' => wpY_backup (fun r' => r' = r ∧ i_Rel (k + 4) u' v) v v1) u v1 := by
  refine pt_el (P := fun u v => wpX_backup (fun r u' => wpY_backup (fun r' => r' = r ∧ i_Rel (k + 4) u' v) v v1) u v1) I ?_
  intro ft fw fb fu fc kA vA kB vB pa fo ed me mp di dp fi bl bb be sa sp gt vs la R
  rcases pt_many v1 with h | ⟨h0, h8⟩ | ⟨w, hw, rfl⟩
  · exact br_t h (br_t h ⟨rfl, R⟩)
  · exact br_f h0 (br_f h8 (br_f h0 (br_f h8 ⟨rfl, R⟩)))
  · obtain ⟨c, en, pr, fk, E, nb, rfl, rfl, rfl, hnb, rfl, hla, C, M, D, B, U⟩ := R
    subst hla
    refine pt_backup C.1.1 hnb (C.1.2.2 c (Nat.le_refl c)).2.1 hw M.1 D B U fun fb' fu' fc' di' dp' fi' bl' bb' be' sa' sp' hD hB => ?_
    obtain ⟨nb', hnb', rfl, hB', hU'⟩ := hB
    exact br_f (nI_pos (by omega)) (br_t (nI_le (b := 8) hw (by decide)) ⟨rfl, c, en, pr, fk, E, nb', rfl, rfl, rfl, hnb', rfl, rfl, C, M, hD, hB', hU'⟩)
theorem i_vc_flush {k : Nat} {u : SX} {v : SY} (I : i_Rel k u v) (hk : k + 4 ≤ 2048) (v1 : Int32) : wpX_flush (fun r u' => wpY_flush (fun r' => r' = r ∧ i_Rel (k + 4) u' v) v v1) u v1 := by
  refine pt_el (P := fun u v => wpX_flush (fun r u' => wpY_flush (fun r' => r' = r ∧ i_Rel (k + 4) u' v) v v1) u v1) I ?_
  intro ft fw fb fu fc kA vA kB vB pa fo ed me mp di dp fi bl bb be sa sp gt vs la R
  rcases pt_many v1 with h | ⟨h0, h8⟩ | ⟨w, hw, rfl⟩
  · exact br_t h (br_t h ⟨rfl, R⟩)
  · exact br_f h0 (br_f h8 (br_f h0 (br_f h8 ⟨rfl, R⟩)))
  · obtain ⟨c, en, pr, fk, E, nb, rfl, rfl, rfl, hnb, rfl, hla, C, M, D, B, U⟩ := R
    subst hla
    have h0 : ¬ nI w < 0 := nI_pos (by omega)
    have h8 : nI w ≤ 8 := nI_le (b := 8) hw (by decide)
    exact br_f h0 (br_t h8 (pt_writeOut M.1 D fun r di' dp' hD => br_f h0 (br_t h8 ⟨rfl, c, en, pr, fk, E, nb, rfl, rfl, rfl, hnb, rfl, rfl, C, M, hD, B, U⟩)))
end
section
theorem i_vc0 : wpX_init (fun u => wpY_init (fun v => i_Rel 0 u v)) := by
  refine nm_e ?_
  refine ⟨0, fun _ => 0, fun _ => 0, fun _ => 0, fun _ _ => 0, 0, rfl, rfl, rfl, by decide, rfl, rfl, ⟨⟨by decide, rfl, fun t ht => ⟨Nat.zero_le 30, rfl, rfl, Nat.le_refl 0⟩⟩, ⟨pk_us, fun t h0 ht => absurd h0 (by omega)⟩, fun t ht p => ⟨Nat.zero_le t, fun _ => (Nat.le_zero.mp ht).symm, fun h0 _ => absurd h0 (by omega)⟩, fun t k ht hk => rfl, fun t p ht hp => absurd hp (Nat.not_lt_zero p)⟩, ⟨fun k hk => ⟨0, Nat.zero_le _, rfl, rfl⟩, fun k hk => rfl⟩, fun k hk => ⟨0, Nat.zero_le _, rfl, rfl⟩, fun b hb hf => absurd rfl hf, fun hf => absurd rfl hf⟩
end
