section
/-! ===== the pure picture: a slot is g : Nat → Nat, 8 for a loose end; the ends passed are the bits of a number ===== -/
/-- a place of the array -/
def gj_e (n : Nat) : Int32 := if n = 8 then -1 else nI n
/-- slot s of the array a1 is g -/
def gj_S (a1 : Nat → Int32) (s : Nat) (g : Nat → Nat) : Prop := ∀ j, j < 8 → g j < 9 ∧ a1 (s * 8 + j) = gj_e (g j)
/-- the ends passed are the bits of m -/
def gj_M (a3 : Nat → Int32) (m : Nat) : Prop := ∀ j, j < 8 → a3 j = if m.testBit j then 1 else 0
/-- an int out of 0 .. n - 1 -/
def gj_O (n : Nat) (x : Int32) : Prop := x < 0 ∨ nI n ≤ x
def gj_b (b : Bool) : Int32 := cond b 1 0
def gj_v (n : Nat) : Int32 := if n = 8 then -4 else nI n
/-- the slot with no joint, and with the joint a b alone -/
def gj_0 : Nat → Nat := fun _ => 8
def gj_P (a b : Nat) : Nat → Nat := fun j => if j = a then b else if j = b then a else 8
def gj_on (m k : Nat) : Nat := m ||| (1 <<< k)
/-! ===== what the methods compute ===== -/
def gj_cnt (g : Nat → Nat) : Nat → Nat → Nat → Nat
  | 0, _, n => n
  | c + 1, a, n => if g a = 8 then gj_cnt g c (a + 1) n else gj_cnt g c (a + 1) (n + 1)
def gj_go (g : Nat → Nat) (f : Nat) : Nat → Nat → Nat → Nat
  | 0, _, m => m
  | c + 1, a, m => if g (a ^^^ 1) = 8 then gj_on (gj_on m a) (a ^^^ 1) else if g (a ^^^ 1) = f then gj_on (gj_on m a) (a ^^^ 1) else gj_go g f c (g (a ^^^ 1)) (gj_on (gj_on m a) (a ^^^ 1))
def gj_c1 (g : Nat → Nat) : Nat → Nat → Nat → Nat → Nat × Nat
  | 0, _, n, m => (n, m)
  | c + 1, a, n, m => if g a = 8 then (if m.testBit a = false then gj_c1 g c (a + 1) (n + 1) (gj_go g a 4 a m) else gj_c1 g c (a + 1) n m) else gj_c1 g c (a + 1) n m
def gj_c2 (g : Nat → Nat) : Nat → Nat → Nat → Nat → Nat
  | 0, _, n, _ => n
  | c + 1, a, n, m => if m.testBit a = false then gj_c2 g c (a + 1) (n + 1) (gj_go g a 4 a m) else gj_c2 g c (a + 1) n m
def gj_chr (g : Nat → Nat) : Int32 := nI (gj_c1 g 8 0 0 0).1 + nI (gj_c2 g 8 0 0 (gj_c1 g 8 0 0 0).2)
def gj_rnd (g : Nat → Nat) : Int32 := nI (gj_c2 g 8 0 0 (gj_c1 g 8 0 0 0).2)
def gj_st (gs gr : Nat → Nat) (f : Nat) : Nat → Nat → Bool → Nat → Nat → Nat × Nat
  | 0, _, _, n, m => (n, m)
  | c + 1, a, true, n, m => if gs a = 8 then (n, m) else if gs a = f then (n + 1, m) else gj_st gs gr f c (gs a) false (n + 1) (gj_on m (gs a))
  | c + 1, a, false, n, m => if gr a = 8 then (n, m) else if gr a = f then (n + 1, m) else gj_st gs gr f c (gr a) true (n + 1) (gj_on m (gr a))
/-- the string from an end that is loose in one of the two -/
def gj_s1 (gs gr : Nat → Nat) (a m : Nat) : Nat × Nat := gj_st gs gr a 16 a (decide (gr a = 8)) 0 (gj_on m a)
def gj_ev (e k : Nat) : Nat := if k % 2 = 0 then e + 1 else e
def gj_d1 (gs gr : Nat → Nat) : Nat → Nat → Nat → Nat → Nat × Nat
  | 0, _, e, m => (e, m)
  | c + 1, a, e, m => if m.testBit a = false then (if gs a = 8 then gj_d1 gs gr c (a + 1) (gj_ev e (gj_s1 gs gr a m).1) (gj_s1 gs gr a m).2 else if gr a = 8 then gj_d1 gs gr c (a + 1) (gj_ev e (gj_s1 gs gr a m).1) (gj_s1 gs gr a m).2 else gj_d1 gs gr c (a + 1) e m) else gj_d1 gs gr c (a + 1) e m
def gj_d2 (gs gr : Nat → Nat) : Nat → Nat → Nat → Nat → Nat
  | 0, _, n, _ => n
  | c + 1, a, n, m => if m.testBit a = false then gj_d2 gs gr c (a + 1) (n + 1) (gj_st gs gr a 16 a true 0 (gj_on m a)).2 else gj_d2 gs gr c (a + 1) n m
def gj_dist (gs gr : Nat → Nat) : Int32 := (4 - nI (gj_d2 gs gr 8 0 0 (gj_d1 gs gr 8 0 0 0).2)) - nI (gj_d1 gs gr 8 0 0 0).1 / 2
/-! ===== the tables ===== -/
theorem gj_tD0 : gj_dist gj_0 gj_0 = 0 := by decide +kernel
theorem gj_tC0 : gj_chr gj_0 = 4 ∧ gj_rnd gj_0 = 0 := by decide +kernel
theorem gj_tD1 : ∀ a, a < 8 → ∀ b, b < 8 → a ≠ b → gj_dist (gj_P a b) (gj_P a b) = 0 := by decide +kernel
theorem gj_tD2 : ∀ a, a < 8 → ∀ b, b < 8 → a ≠ b → gj_dist (gj_P a b) gj_0 = 1 := by decide +kernel
theorem gj_tC : ∀ a, a < 8 → ∀ b, b < 8 → a ≠ b → gj_chr (gj_P a b) = cond (decide (nI a / 2 = nI b / 2)) 4 3 := by decide +kernel
theorem gj_tR : ∀ a, a < 8 → ∀ b, b < 8 → a ≠ b → gj_rnd (gj_P a b) = cond (decide (nI a / 2 = nI b / 2)) 1 0 := by decide +kernel
theorem gj_tJ : ∀ a, a < 8 → ∀ b, b < 8 → a ≠ b → nI (gj_cnt (gj_P a b) 8 0 0) / 2 = 1 := by decide +kernel
theorem gj_tP : ∀ a, a < 8 → ∀ b, b < 8 → a ≠ b → ∀ j, j < 8 → gj_P a b j < 9 := by decide +kernel
theorem gj_em : ∀ n, n < 9 → (gj_e n = -1 ↔ n = 8) := by decide +kernel
theorem gj_ef : ∀ n, n < 9 → ∀ f, f < 8 → (gj_e n = nI f ↔ n = f) := by decide +kernel
theorem gj_n8 : ∀ j, j < 8 → ¬ (8 : Int32) ≤ nI j := by decide +kernel
theorem gj_n4 : ∀ j, j < 4 → ¬ (4 : Int32) ≤ nI j := by decide +kernel
theorem gj_n16 : ∀ j, j < 16 → ¬ (16 : Int32) ≤ nI j := by decide +kernel
theorem gj_n40 : ∀ j, j < 40 → ¬ (40 : Int32) ≤ nI j := by decide +kernel
theorem gj_xr : ∀ a, a < 8 → nI a ^^^ 1 = nI (a ^^^ 1) ∧ a ^^^ 1 < 8 := by decide +kernel
theorem gj_bit : ∀ k, k < 8 → ∀ j, j < 8 → (1 <<< k).testBit j = decide (j = k) := by decide +kernel
theorem gj_rem : ∀ k, k < 17 → (nI k - nI k / 2 * 2 = 0 ↔ k % 2 = 0) := by decide +kernel
/-! ===== rows of the picture ===== -/
theorem gj_en {n : Nat} (h : ¬ n = 8) : gj_e n = nI n := if_neg h
theorem gj_Mon {a3 : Nat → Int32} {m k : Nat} (hk : k < 8) (h : gj_M a3 m) : gj_M (upd a3 k 1) (gj_on m k) := by
  intro j hj
  unfold gj_on
  rw [Nat.testBit_or, gj_bit k hk j hj]
  by_cases e : j = k
  · rw [e, pk_us]
    simp
  · rw [pk_un e, h j hj]
    simp [e]
theorem gj_M0 {a3 : Nat → Int32} {m j : Nat} (hj : j < 8) (h : gj_M a3 m) : a3 j = 0 ↔ m.testBit j = false := by
  rw [h j hj]
  cases m.testBit j
  · exact ⟨fun _ => rfl, fun _ => rfl⟩
  · exact ⟨fun z => absurd z (by decide), fun z => absurd z (by decide)⟩
theorem gj_ix (s j : Nat) : nI s * 8 + nI j = nI (s * 8 + j) := by
  have h : (8 : Int32) = nI 8 := rfl
  rw [h, pk_mul, nI_add]
theorem gj_in {s j : Nat} (hs : s < 5) (hj : j < 8) : vp_in (nI s * 8 + nI j) 40 := by
  rw [gj_ix]
  exact vp_in_nI (by omega) (by omega)
theorem gj_cl {s j : Nat} (hs : s < 5) (hj : j < 8) : (nI s * 8 + nI j).toNatClampNeg = s * 8 + j := by
  rw [gj_ix]
  exact nI_clamp (by omega)
theorem gj_at {a1 : Nat → Int32} {s j : Nat} {g : Nat → Nat} (h : gj_S a1 s g) (hs : s < 5) (hj : j < 8) : a1 (nI s * 8 + nI j).toNatClampNeg = gj_e (g j) := by
  rw [gj_cl hs hj]
  exact (h j hj).2
theorem gj_stle (gs gr : Nat → Nat) (f : Nat) : ∀ c a b n m, (gj_st gs gr f c a b n m).1 ≤ n + c
  | 0, a, b, n, m => by
    unfold gj_st
    exact Nat.le_refl n
  | c + 1, a, true, n, m => by
    unfold gj_st
    split
    · show n ≤ n + (c + 1)
      omega
    · split
      · show n + 1 ≤ n + (c + 1)
        omega
      · have := gj_stle gs gr f c (gs a) false (n + 1) (gj_on m (gs a))
        omega
  | c + 1, a, false, n, m => by
    unfold gj_st
    split
    · show n ≤ n + (c + 1)
      omega
    · split
      · show n + 1 ≤ n + (c + 1)
        omega
      · have := gj_stle gs gr f c (gr a) true (n + 1) (gj_on m (gr a))
        omega
/-- a joint tied in slot s of an array whose slot s is loose -/
theorem gj_Stie {a1 : Nat → Int32} {s a b : Nat} (h : gj_S a1 s gj_0) (ha : a < 8) (hb : b < 8) (hab : a ≠ b) : gj_S (upd (upd a1 (s * 8 + a) (nI b)) (s * 8 + b) (nI a)) s (gj_P a b) := by
  intro j hj
  refine ⟨gj_tP a ha b hb hab j hj, ?_⟩
  by_cases e2 : j = b
  · have e1 : ¬ j = a := fun z => hab (by rw [← z, e2])
    have ep : gj_P a b j = a := by
      unfold gj_P
      rw [if_neg e1, if_pos e2]
    rw [ep, gj_en (by omega), e2, pk_us]
  · rw [pk_un (by omega)]
    by_cases e1 : j = a
    · have ep : gj_P a b j = b := by
        unfold gj_P
        rw [if_pos e1]
      rw [ep, gj_en (by omega), e1, pk_us]
    · have ep : gj_P a b j = 8 := by
        unfold gj_P
        rw [if_neg e1, if_neg e2]
      rw [pk_un (by omega), ep]
      exact (h j hj).2
/-- a joint cut in a slot that holds it alone -/
theorem gj_Scut {a1 : Nat → Int32} {s a b : Nat} {g : Nat → Nat} (h : gj_S a1 s g) (ha : a < 8) (hb : b < 8) (hg : ∀ j, j < 8 → j ≠ a → j ≠ b → g j = 8) : gj_S (upd (upd a1 (s * 8 + a) (-1)) (s * 8 + b) (-1)) s gj_0 := by
  intro j hj
  refine ⟨(by decide : (8 : Nat) < 9), ?_⟩
  show _ = gj_e 8
  by_cases e2 : j = b
  · rw [e2, pk_us]
    rfl
  · rw [pk_un (by omega)]
    by_cases e1 : j = a
    · rw [e1, pk_us]
      rfl
    · rw [pk_un (by omega), (h j hj).2, hg j hj e1 e2]
/-- stores into slot s leave another slot -/
theorem gj_Soth {a1 : Nat → Int32} {s t a b : Nat} {x y : Int32} {g : Nat → Nat} (h : gj_S a1 t g) (ht : t ≠ s) (ha : a < 8) (hb : b < 8) : gj_S (upd (upd a1 (s * 8 + a) x) (s * 8 + b) y) t g := by
  intro j hj
  refine ⟨(h j hj).1, ?_⟩
  rw [pk_un (by omega), pk_un (by omega)]
  exact (h j hj).2
theorem gj_nlt {n : Nat} {x : Int32} (h : nI n ≤ x) : ¬ x < nI n := Int32.not_lt.mpr h
theorem gj_On {n : Nat} {x : Int32} (h : gj_O n x) : ¬ x < 0 → nI n ≤ x := fun z => h.resolve_left z
theorem gj_ran (n : Nat) (hn : n < 2 ^ 31) (x : Int32) : gj_O n x ∨ ∃ j, j < n ∧ x = nI j := by
  rcases pk_ix x hn with h | h | h
  · exact Or.inl (Or.inl h)
  · exact Or.inl (Or.inr h)
  · exact Or.inr h
end
section
/-! ===== the methods, one by one ===== -/
section
variable {l f : Int32} {a1 a2 a3 a4 : Nat → Int32}
theorem gj_badO {post : Int32 → Prop} {p : Int32} (h : gj_O 3 p) (hp : post 1) : wpX_bad post (l, f, a1, a2, a3, a4) p := by
  unfold wpX_bad
  exact br_c (fun _ => hp) (fun z => br_f (gj_nlt (n := 3) (gj_On h z)) hp)
theorem gj_badI {post : Int32 → Prop} {j : Nat} (h : j < 3) (hp : post 0) : wpX_bad post (l, f, a1, a2, a3, a4) (nI j) := by
  unfold wpX_bad
  exact br_f (nI_pos (by omega)) (br_t (nI_lt (b := 3) h (by decide)) hp)
theorem gj_endO {post : Int32 → Prop} {p : Int32} (h : gj_O 8 p) (hp : post 1) : wpX_badEnd post (l, f, a1, a2, a3, a4) p := by
  unfold wpX_badEnd
  exact br_c (fun _ => hp) (fun z => br_f (gj_nlt (n := 8) (gj_On h z)) hp)
theorem gj_endI {post : Int32 → Prop} {j : Nat} (h : j < 8) (hp : post 0) : wpX_badEnd post (l, f, a1, a2, a3, a4) (nI j) := by
  unfold wpX_badEnd
  exact br_f (nI_pos (by omega)) (br_t (nI_lt (b := 8) h (by decide)) hp)
theorem gj_loose {post : Int32 → Prop} {s j : Nat} {g : Nat → Nat} (hS : gj_S a1 s g) (hs : s < 5) (hj : j < 8) (h1 : g j = 8 → post 1) (h0 : ¬ g j = 8 → post 0) : wpX_loose post (l, f, a1, a2, a3, a4) (nI s) (nI j) := by
  unfold wpX_loose
  refine ⟨gj_in hs hj, ?_⟩
  rw [gj_at hS hs hj]
  exact ek_if (gj_em (g j) (hS j hj).1) h1 h0
theorem gj_tie {post : St2 → Prop} {s a b : Nat} (hs : s < 5) (ha : a < 8) (hb : b < 8) (h : post (l, f, upd (upd a1 (s * 8 + a) (nI b)) (s * 8 + b) (nI a), a2, a3, a4)) : wpX_tie post (l, f, a1, a2, a3, a4) (nI s) (nI a) (nI b) := by
  unfold wpX_tie
  refine ⟨gj_in hs ha, fun x ex => ⟨gj_in hs hb, fun y ey => ?_⟩⟩
  rw [gj_cl hs ha] at ex
  rw [gj_cl hs hb] at ey
  subst ex
  subst ey
  exact h
theorem gj_jo4 {post : Int32 → Prop} {s : Nat} {g : Nat → Nat} (hS : gj_S a1 s g) (hs : s < 5) : ∀ c j n, j + c = 8 → post (nI (gj_cnt g c j n) / 2) → wX_jointsOf_4 post (nI s) l f a1 a2 a3 a4 (c + 1) (nI n) (nI j)
  | 0, j, n, h, hp => by
    have e : j = 8 := by omega
    subst e
    exact br_t (by decide) ⟨by decide, hp⟩
  | c + 1, j, n, h, hp => by
    refine br_f (gj_n8 j (by omega)) (gj_loose hS hs (by omega) (fun e => ?_) (fun e => ?_))
    · refine br_f (by decide) (nm_r (nI_1 j) (gj_jo4 hS hs c (j + 1) n (by omega) ?_))
      rw [gj_cnt, if_pos e] at hp
      exact hp
    · refine br_t rfl (nm_r (nI_1 n) (nm_r (nI_1 j) (gj_jo4 hS hs c (j + 1) (n + 1) (by omega) ?_)))
      rw [gj_cnt, if_neg e] at hp
      exact hp
theorem gj_jo {post : Int32 → Prop} {s : Nat} {g : Nat → Nat} (hS : gj_S a1 s g) (hs : s < 5) (hp : post (nI (gj_cnt g 8 0 0) / 2)) : wpX_jointsOf post (l, f, a1, a2, a3, a4) (nI s) := by
  unfold wpX_jointsOf
  exact ⟨9, gj_jo4 hS hs 8 0 0 (by omega) hp⟩
/-! join -/
theorem gj_joinS {post : Int32 → St2 → Prop} {p0 p1 p2 : Int32} (h : gj_O 3 p0) (hp : post (-1) (l, f, a1, a2, a3, a4)) : wpX_join post (l, f, a1, a2, a3, a4) p0 p1 p2 := by
  unfold wpX_join
  exact gj_badO h (br_f (by decide) hp)
theorem gj_joinA {post : Int32 → St2 → Prop} {s : Nat} {p1 p2 : Int32} (hs : s < 3) (h : gj_O 8 p1) (hp : post (-1) (l, f, a1, a2, a3, a4)) : wpX_join post (l, f, a1, a2, a3, a4) (nI s) p1 p2 := by
  unfold wpX_join
  exact gj_badI hs (br_t rfl (gj_endO h (br_f (by decide) hp)))
theorem gj_joinB {post : Int32 → St2 → Prop} {s a : Nat} {p2 : Int32} (hs : s < 3) (ha : a < 8) (h : gj_O 8 p2) (hp : post (-1) (l, f, a1, a2, a3, a4)) : wpX_join post (l, f, a1, a2, a3, a4) (nI s) (nI a) p2 := by
  unfold wpX_join
  exact gj_badI hs (br_t rfl (gj_endI ha (br_t rfl (gj_endO h (br_f (by decide) hp)))))
theorem gj_joinE {post : Int32 → St2 → Prop} {s a : Nat} (hs : s < 3) (ha : a < 8) (hp : post (-1) (l, f, a1, a2, a3, a4)) : wpX_join post (l, f, a1, a2, a3, a4) (nI s) (nI a) (nI a) := by
  unfold wpX_join
  exact gj_badI hs (br_t rfl (gj_endI ha (br_t rfl (gj_endI ha (br_t rfl (br_t rfl hp))))))
theorem gj_joinI {post : Int32 → St2 → Prop} {s a b : Nat} (hS : gj_S a1 s gj_0) (hs : s < 3) (ha : a < 8) (hb : b < 8) (hab : a ≠ b) (hp : post 1 (l, f, upd (upd a1 (s * 8 + a) (nI b)) (s * 8 + b) (nI a), a2, a3, a4)) : wpX_join post (l, f, a1, a2, a3, a4) (nI s) (nI a) (nI b) := by
  unfold wpX_join
  refine gj_badI hs (br_t rfl (gj_endI ha (br_t rfl (gj_endI hb (br_t rfl (br_f (fun z => hab ((nI_eq (by omega) (by omega)).mp z)) ?_))))))
  refine gj_loose hS (by omega) ha (fun _ => br_f (by decide) ?_) (fun z => absurd rfl z)
  refine gj_loose hS (by omega) hb (fun _ => br_f (by decide) ?_) (fun z => absurd rfl z)
  refine gj_tie (by omega) ha hb ?_
  refine gj_jo (gj_Stie hS ha hb hab) (by omega) ?_
  rw [gj_tJ a ha b hb hab]
  exact hp
/-! partner -/
theorem gj_parS {post : Int32 → Prop} {p0 p1 : Int32} (h : gj_O 3 p0) (hp : post (-1)) : wpX_partner post (l, f, a1, a2, a3, a4) p0 p1 := by
  unfold wpX_partner
  exact gj_badO h (br_f (by decide) hp)
theorem gj_parO {post : Int32 → Prop} {s : Nat} {p1 : Int32} (hs : s < 3) (h : gj_O 8 p1) (hp : post (-4)) : wpX_partner post (l, f, a1, a2, a3, a4) (nI s) p1 := by
  unfold wpX_partner
  exact gj_badI hs (br_t rfl (gj_endO h (br_f (by decide) hp)))
theorem gj_parI {post : Int32 → Prop} {s c : Nat} {g : Nat → Nat} (hS : gj_S a1 s g) (hs : s < 3) (hc : c < 8) (hp : post (gj_v (g c))) : wpX_partner post (l, f, a1, a2, a3, a4) (nI s) (nI c) := by
  unfold wpX_partner
  refine gj_badI hs (br_t rfl (gj_endI hc (br_t rfl ⟨gj_in (by omega) hc, ?_⟩)))
  rw [gj_at hS (by omega) hc]
  unfold gj_v at hp
  refine ek_if (gj_em (g c) (hS c hc).1) (fun e => ?_) (fun e => ⟨gj_in (by omega) hc, ?_⟩)
  · rw [if_pos e] at hp
    exact hp
  · rw [if_neg e] at hp
    rw [gj_en e]
    exact hp
/-! cut -/
theorem gj_cutS {post : Int32 → St2 → Prop} {p0 p1 : Int32} (h : gj_O 3 p0) (hp : post (-1) (l, f, a1, a2, a3, a4)) : wpX_cut post (l, f, a1, a2, a3, a4) p0 p1 := by
  unfold wpX_cut
  exact gj_badO h (br_f (by decide) hp)
theorem gj_cutO {post : Int32 → St2 → Prop} {s : Nat} {p1 : Int32} (hs : s < 3) (h : gj_O 8 p1) (hp : post (-1) (l, f, a1, a2, a3, a4)) : wpX_cut post (l, f, a1, a2, a3, a4) (nI s) p1 := by
  unfold wpX_cut
  exact gj_badI hs (br_t rfl (gj_endO h (br_f (by decide) hp)))
theorem gj_cutL {post : Int32 → St2 → Prop} {s c : Nat} {g : Nat → Nat} (hS : gj_S a1 s g) (hs : s < 3) (hc : c < 8) (hg : g c = 8) (hp : post (-4) (l, f, a1, a2, a3, a4)) : wpX_cut post (l, f, a1, a2, a3, a4) (nI s) (nI c) := by
  unfold wpX_cut
  exact gj_badI hs (br_t rfl (gj_endI hc (br_t rfl (gj_loose hS (by omega) hc (fun _ => br_f (by decide) hp) (fun z => absurd hg z)))))
theorem gj_untie {post : St2 → Prop} {s c d : Nat} {g : Nat → Nat} (hS : gj_S a1 s g) (hs : s < 5) (hc : c < 8) (hd : d < 8) (hg : g c = d) (hp : post (l, f, upd (upd a1 (s * 8 + c) (-1)) (s * 8 + d) (-1), a2, a3, a4)) : wpX_untie post (l, f, a1, a2, a3, a4) (nI s) (nI c) := by
  unfold wpX_untie
  refine ⟨gj_in hs hc, fun x ex => ?_⟩
  rw [gj_at hS hs hc, hg, gj_en (by omega)] at ex
  subst ex
  refine ⟨gj_in hs hc, fun y ey => ⟨gj_in hs hd, fun z ez => ?_⟩⟩
  rw [gj_cl hs hc] at ey
  rw [gj_cl hs hd] at ez
  subst ey
  subst ez
  exact hp
theorem gj_cutI {post : Int32 → St2 → Prop} {s c d : Nat} {g : Nat → Nat} (hS : gj_S a1 s g) (hs : s < 3) (hc : c < 8) (hd : d < 8) (hg : g c = d) (hp : post (nI d) (l, f, upd (upd a1 (s * 8 + c) (-1)) (s * 8 + d) (-1), a2, a3, a4)) : wpX_cut post (l, f, a1, a2, a3, a4) (nI s) (nI c) := by
  unfold wpX_cut
  refine gj_badI hs (br_t rfl (gj_endI hc (br_t rfl (gj_loose hS (by omega) hc (fun z => absurd z (by omega)) (fun z => br_t rfl ⟨gj_in (by omega) hc, fun x ex => ?_⟩)))))
  rw [gj_at hS (by omega) hc, hg, gj_en (by omega)] at ex
  subst ex
  exact gj_untie hS (by omega) hc hd hg hp
/-! clearPassed -/
theorem gj_clr2 {post : St2 → Prop} (hp : ∀ b3, gj_M b3 0 → post (l, f, a1, a2, b3, a4)) : ∀ c j (b3 : Nat → Int32), j + c = 8 → (∀ i, i < j → b3 i = 0) → wX_clearPassed_2 post l f (c + 1) (nI j) a1 a2 b3 a4
  | 0, j, b3, h, hb => by
    have e : j = 8 := by omega
    subst e
    refine br_t (by decide) (hp b3 (fun i hi => ?_))
    rw [hb i hi, Nat.zero_testBit]
    rfl
  | c + 1, j, b3, h, hb => by
    refine br_f (gj_n8 j (by omega)) ⟨vp_in_nI (by omega) (by decide), fun x ex => nm_r (nI_1 j) (gj_clr2 hp c (j + 1) x (by omega) (fun i hi => ?_))⟩
    rw [nI_clamp (by omega)] at ex
    subst ex
    by_cases e : i = j
    · rw [e, pk_us]
    · rw [pk_un e]
      exact hb i (by omega)
theorem gj_clr {post : St2 → Prop} (hp : ∀ b3, gj_M b3 0 → post (l, f, a1, a2, b3, a4)) : wpX_clearPassed post (l, f, a1, a2, a3, a4) := by
  unfold wpX_clearPassed
  exact ⟨9, gj_clr2 hp 8 0 a3 (by omega) (fun i hi => absurd hi (by omega))⟩
end
end
section
/-! ===== goAlong, chromosomesOf ===== -/
section
variable {l f : Int32} {a1 a2 a4 : Nat → Int32}
theorem gj_go5 {post : Int32 → St2 → Prop} {s fr : Nat} {g : Nat → Nat} (hS : gj_S a1 s g) (hs : s < 5) (hf : fr < 8) : ∀ c i a m (a3 : Nat → Int32), i + c = 4 → a < 8 → gj_M a3 m → (∀ r b3, gj_M b3 (gj_go g fr c a m) → post r (l, f, a1, a2, b3, a4)) → wX_goAlong_5 post (nI s) (nI fr) l f (c + 1) (nI a) (nI i) a1 a2 a3 a4
  | 0, i, a, m, a3, h, ha, hM, hp => by
    have e : i = 4 := by omega
    subst e
    exact br_t (by decide) (hp 1 a3 hM)
  | c + 1, i, a, m, a3, h, ha, hM, hp => by
    have hx := gj_xr a ha
    rw [gj_go] at hp
    refine br_f (gj_n4 i (by omega)) ⟨vp_in_nI ha (by decide), fun x ex => ?_⟩
    rw [hx.1]
    refine ⟨vp_in_nI hx.2 (by decide), fun y ey => ⟨gj_in hs hx.2, fun z ez => ?_⟩⟩
    rw [nI_clamp (by omega)] at ex
    rw [nI_clamp (by omega)] at ey
    rw [gj_at hS hs hx.2] at ez
    subst ex
    subst ey
    subst ez
    have hM' := gj_Mon hx.2 (gj_Mon ha hM)
    have hg := (hS _ hx.2).1
    refine ek_if (gj_em _ hg) (fun e => ?_) (fun e => ek_if (gj_ef _ hg fr hf) (fun e2 => ?_) (fun e2 => nm_r (nI_1 i) ?_))
    · rw [if_pos e] at hp
      exact hp 0 _ hM'
    · rw [if_neg e, if_pos e2] at hp
      exact hp 1 _ hM'
    · rw [if_neg e, if_neg e2] at hp
      rw [gj_en e]
      exact gj_go5 hS hs hf c (i + 1) _ _ _ (by omega) (by omega) hM' hp
theorem gj_along {post : Int32 → St2 → Prop} {s a m : Nat} {g : Nat → Nat} {a3 : Nat → Int32} (hS : gj_S a1 s g) (hs : s < 5) (ha : a < 8) (hM : gj_M a3 m) (hp : ∀ r b3, gj_M b3 (gj_go g a 4 a m) → post r (l, f, a1, a2, b3, a4)) : wpX_goAlong post (l, f, a1, a2, a3, a4) (nI s) (nI a) := by
  unfold wpX_goAlong
  exact ⟨5, gj_go5 hS hs ha 4 0 a m a3 (by omega) ha hM hp⟩
theorem gj_ch59 {post : Int32 → St2 → Prop} {s k : Nat} {o : Bool} {g : Nat → Nat} (hS : gj_S a1 s g) (hs : s < 5) : ∀ c j n m (a3 : Nat → Int32), j + c = 8 → gj_M a3 m → (∀ b3, post (cond o (nI (gj_c2 g c j n m)) (nI k + nI (gj_c2 g c j n m))) (l, f, a1, a2, b3, a4)) → wX_chromosomesOf_59 post (nI s) (gj_b o) (nI k) (c + 1) (nI n) (nI j) l f a1 a2 a3 a4
  | 0, j, n, m, a3, h, hM, hp => by
    have e : j = 8 := by omega
    subst e
    refine br_t (by decide) ?_
    cases o
    · exact br_t rfl (hp a3)
    · exact br_f (by decide) (hp a3)
  | c + 1, j, n, m, a3, h, hM, hp => by
    have hj : j < 8 := by omega
    rw [gj_c2] at hp
    refine br_f (gj_n8 j hj) ⟨vp_in_nI hj (by decide), ?_⟩
    rw [nI_clamp (by omega)]
    refine ek_if (gj_M0 hj hM) (fun e => ?_) (fun e => nm_r (nI_1 j) ?_)
    · rw [if_pos e] at hp
      exact gj_along hS hs hj hM (fun r b3 hb => nm_r (nI_1 n) (nm_r (nI_1 j) (gj_ch59 hS hs c (j + 1) (n + 1) _ b3 (by omega) hb hp)))
    · rw [if_neg e] at hp
      exact gj_ch59 hS hs c (j + 1) n m a3 (by omega) hM hp
theorem gj_ch9 {post : Int32 → St2 → Prop} {s : Nat} {o : Bool} {g : Nat → Nat} (hS : gj_S a1 s g) (hs : s < 5) : ∀ c j n m (a3 : Nat → Int32), j + c = 8 → gj_M a3 m → (∀ b3, post (cond o (nI (gj_c2 g 8 0 0 (gj_c1 g c j n m).2)) (nI (gj_c1 g c j n m).1 + nI (gj_c2 g 8 0 0 (gj_c1 g c j n m).2))) (l, f, a1, a2, b3, a4)) → wX_chromosomesOf_9 post (nI s) (gj_b o) (c + 1) (nI n) (nI j) l f a1 a2 a3 a4
  | 0, j, n, m, a3, h, hM, hp => by
    have e : j = 8 := by omega
    subst e
    exact br_t (by decide) ⟨9, gj_ch59 hS hs 8 0 0 m a3 (by omega) hM hp⟩
  | c + 1, j, n, m, a3, h, hM, hp => by
    have hj : j < 8 := by omega
    rw [gj_c1] at hp
    refine br_f (gj_n8 j hj) (gj_loose hS hs hj (fun e => br_f (by decide) ⟨vp_in_nI hj (by decide), ?_⟩) (fun e => br_t rfl (nm_r (nI_1 j) ?_)))
    · rw [if_pos e] at hp
      rw [nI_clamp (by omega)]
      refine ek_if (gj_M0 hj hM) (fun e2 => ?_) (fun e2 => nm_r (nI_1 j) ?_)
      · rw [if_pos e2] at hp
        exact gj_along hS hs hj hM (fun r b3 hb => nm_r (nI_1 n) (nm_r (nI_1 j) (gj_ch9 hS hs c (j + 1) (n + 1) _ b3 (by omega) hb hp)))
      · rw [if_neg e2] at hp
        exact gj_ch9 hS hs c (j + 1) n m a3 (by omega) hM hp
    · rw [if_neg e] at hp
      exact gj_ch9 hS hs c (j + 1) n m a3 (by omega) hM hp
theorem gj_chOf {post : Int32 → St2 → Prop} {s : Nat} {o : Bool} {g : Nat → Nat} {a3 : Nat → Int32} (hS : gj_S a1 s g) (hs : s < 5) (hp : ∀ b3, post (cond o (gj_rnd g) (gj_chr g)) (l, f, a1, a2, b3, a4)) : wpX_chromosomesOf post (l, f, a1, a2, a3, a4) (nI s) (gj_b o) := by
  unfold wpX_chromosomesOf
  exact gj_clr (fun b3 hb => ⟨9, gj_ch9 hS hs 8 0 0 0 b3 (by omega) hb hp⟩)
theorem gj_chrO {post : Int32 → St2 → Prop} {p : Int32} {a3 : Nat → Int32} (h : gj_O 3 p) (hp : post (-1) (l, f, a1, a2, a3, a4)) : wpX_chromosomes post (l, f, a1, a2, a3, a4) p := by
  unfold wpX_chromosomes
  exact gj_badO h (br_f (by decide) hp)
theorem gj_chrI {post : Int32 → St2 → Prop} {s : Nat} {g : Nat → Nat} {a3 : Nat → Int32} (hS : gj_S a1 s g) (hs : s < 3) (hp : ∀ b3, post (gj_chr g) (l, f, a1, a2, b3, a4)) : wpX_chromosomes post (l, f, a1, a2, a3, a4) (nI s) := by
  unfold wpX_chromosomes
  exact gj_badI hs (br_t rfl (gj_chOf (o := false) hS (by omega) hp))
theorem gj_rndO {post : Int32 → St2 → Prop} {p : Int32} {a3 : Nat → Int32} (h : gj_O 3 p) (hp : post (-1) (l, f, a1, a2, a3, a4)) : wpX_round post (l, f, a1, a2, a3, a4) p := by
  unfold wpX_round
  exact gj_badO h (br_f (by decide) hp)
theorem gj_rndI {post : Int32 → St2 → Prop} {s : Nat} {g : Nat → Nat} {a3 : Nat → Int32} (hS : gj_S a1 s g) (hs : s < 3) (hp : ∀ b3, post (gj_rnd g) (l, f, a1, a2, b3, a4)) : wpX_round post (l, f, a1, a2, a3, a4) (nI s) := by
  unfold wpX_round
  exact gj_badI hs (br_t rfl (gj_chOf (o := true) hS (by omega) hp))
/-! ===== string, distanceOf ===== -/
theorem gj_st60 {post : Int32 → St2 → Prop} {J : Int32 → Int32 → Int32 → Int32 → (Nat → Int32) → (Nat → Int32) → (Nat → Int32) → (Nat → Int32) → Prop} {x1 x2 : Int32} {fr n i z : Nat} {b : Bool} {a3 : Nat → Int32} (hz : z < 9) (hf : fr < 8)
    (h8 : z = 8 → post (nI n) (l, f, a1, a2, a3, a4)) (h1 : ¬ z = 8 → z = fr → post (nI (n + 1)) (l, f, a1, a2, a3, a4))
    (hn : ¬ z = 8 → ¬ z = fr → J (nI z) (gj_b (!b)) (nI (n + 1)) (nI (i + 1)) a1 a2 (upd a3 z 1) a4) : wX_string_60 post J x1 x2 (nI fr) (gj_b b) (nI n) (nI i) (gj_e z) l f a1 a2 a3 a4 := by
  unfold wX_string_60
  refine ek_if (gj_em z hz) (fun e => ?_) (fun e => ek_if (gj_ef z hz fr hf) (fun e2 => ?_) (fun e2 => ?_))
  · exact br_t ((gj_em z hz).mpr e) (h8 e)
  · refine br_f (fun t => e ((gj_em z hz).mp t)) ?_
    rw [nI_1]
    exact h1 e e2
  · rw [gj_en e]
    refine ⟨vp_in_nI (by omega) (by decide), fun x ex => nm_r (nI_1 n) ?_⟩
    rw [nI_clamp (by omega)] at ex
    subst ex
    have hn' := hn e e2
    cases b
    · exact br_t rfl (nm_r (nI_1 i) hn')
    · exact br_f (by decide) (nm_r (nI_1 i) hn')
theorem gj_st21 {post : Int32 → St2 → Prop} {s r fr : Nat} {gs gr : Nat → Nat} (hS : gj_S a1 s gs) (hs : s < 5) (hR : gj_S a1 r gr) (hr : r < 5) (hf : fr < 8) : ∀ c i a b n m (a3 : Nat → Int32), i + c = 16 → a < 8 → gj_M a3 m → (∀ b3, gj_M b3 (gj_st gs gr fr c a b n m).2 → post (nI (gj_st gs gr fr c a b n m).1) (l, f, a1, a2, b3, a4)) → wX_string_21 post (nI s) (nI r) (nI fr) l f (c + 1) (nI a) (gj_b b) (nI n) (nI i) a1 a2 a3 a4
  | 0, i, a, b, n, m, a3, h, ha, hM, hp => by
    have e : i = 16 := by omega
    subst e
    rw [gj_st] at hp
    exact br_t (by decide) (hp a3 hM)
  | c + 1, i, a, true, n, m, a3, h, ha, hM, hp => by
    rw [gj_st] at hp
    have hg := (hS a ha).1
    refine br_f (gj_n16 i (by omega)) (br_f (by decide) ⟨gj_in hs ha, ?_⟩)
    rw [gj_at hS hs ha]
    refine gj_st60 (b := true) hg hf (fun e => ?_) (fun e e2 => ?_) (fun e e2 => ?_)
    · rw [if_pos e] at hp
      exact hp a3 hM
    · rw [if_neg e, if_pos e2] at hp
      exact hp a3 hM
    · rw [if_neg e, if_neg e2] at hp
      exact gj_st21 hS hs hR hr hf c (i + 1) _ false (n + 1) _ _ (by omega) (by omega) (gj_Mon (by omega) hM) hp
  | c + 1, i, a, false, n, m, a3, h, ha, hM, hp => by
    rw [gj_st] at hp
    have hg := (hR a ha).1
    refine br_f (gj_n16 i (by omega)) (br_t rfl ⟨gj_in hr ha, ?_⟩)
    rw [gj_at hR hr ha]
    refine gj_st60 (b := false) hg hf (fun e => ?_) (fun e e2 => ?_) (fun e e2 => ?_)
    · rw [if_pos e] at hp
      exact hp a3 hM
    · rw [if_neg e, if_pos e2] at hp
      exact hp a3 hM
    · rw [if_neg e, if_neg e2] at hp
      exact gj_st21 hS hs hR hr hf c (i + 1) _ true (n + 1) _ _ (by omega) (by omega) (gj_Mon (by omega) hM) hp
theorem gj_str {post : Int32 → St2 → Prop} {s r a m : Nat} {b : Bool} {gs gr : Nat → Nat} {a3 : Nat → Int32} (hS : gj_S a1 s gs) (hs : s < 5) (hR : gj_S a1 r gr) (hr : r < 5) (ha : a < 8) (hM : gj_M a3 m) (hp : ∀ b3, gj_M b3 (gj_st gs gr a 16 a b 0 (gj_on m a)).2 → post (nI (gj_st gs gr a 16 a b 0 (gj_on m a)).1) (l, f, a1, a2, b3, a4)) : wpX_string post (l, f, a1, a2, a3, a4) (nI s) (nI r) (nI a) (gj_b b) := by
  unfold wpX_string
  refine ⟨vp_in_nI ha (by decide), fun x ex => ⟨17, ?_⟩⟩
  rw [nI_clamp (by omega)] at ex
  subst ex
  exact gj_st21 hS hs hR hr ha 16 0 a b 0 _ _ (by omega) ha (gj_Mon ha hM) hp
theorem gj_d90 {post : Int32 → St2 → Prop} {s r e : Nat} {gs gr : Nat → Nat} (hS : gj_S a1 s gs) (hs : s < 5) (hR : gj_S a1 r gr) (hr : r < 5) : ∀ c j n m (a3 : Nat → Int32), j + c = 8 → gj_M a3 m → (∀ b3, post ((4 - nI (gj_d2 gs gr c j n m)) - nI e / 2) (l, f, a1, a2, b3, a4)) → wX_distanceOf_90 post (nI s) (nI r) (nI e) (c + 1) (nI n) (nI j) l f a1 a2 a3 a4
  | 0, j, n, m, a3, h, hM, hp => by
    have e : j = 8 := by omega
    subst e
    exact br_t (by decide) ⟨by decide, hp a3⟩
  | c + 1, j, n, m, a3, h, hM, hp => by
    have hj : j < 8 := by omega
    rw [gj_d2] at hp
    refine br_f (gj_n8 j hj) ⟨vp_in_nI hj (by decide), ?_⟩
    rw [nI_clamp (by omega)]
    refine ek_if (gj_M0 hj hM) (fun e => ?_) (fun e => nm_r (nI_1 j) ?_)
    · rw [if_pos e] at hp
      exact gj_str (b := true) hS hs hR hr hj hM (fun b3 hb => nm_r (nI_1 n) (nm_r (nI_1 j) (gj_d90 hS hs hR hr c (j + 1) (n + 1) _ b3 (by omega) hb hp)))
    · rw [if_neg e] at hp
      exact gj_d90 hS hs hR hr c (j + 1) n m a3 (by omega) hM hp
theorem gj_d46 {post : Int32 → St2 → Prop} {J : Int32 → Int32 → Int32 → Int32 → (Nat → Int32) → (Nat → Int32) → (Nat → Int32) → (Nat → Int32) → Prop} {s r e j m : Nat} {gs gr : Nat → Nat} {a3 : Nat → Int32} (hS : gj_S a1 s gs) (hs : s < 5) (hR : gj_S a1 r gr) (hr : r < 5) (hj : j < 8) (hM : gj_M a3 m)
    (hp : ∀ b3, gj_M b3 (gj_s1 gs gr j m).2 → J (nI (gj_ev e (gj_s1 gs gr j m).1)) (nI (j + 1)) l f a1 a2 b3 a4) : wX_distanceOf_46 post J (nI s) (nI r) (nI e) (nI j) l f a1 a2 a3 a4 := by
  have key : ∀ (k : Nat) (b3 : Nat → Int32), k < 17 → J (nI (gj_ev e k)) (nI (j + 1)) l f a1 a2 b3 a4 → (¬ (2 : Int32) = 0 ∧ ((((nI k - nI k / 2 * 2) = 0 → (∀ x3 : Int32, x3 = nI e + 1 → (∀ x4 : Int32, x4 = nI j + 1 → (J x3 x4 l f a1 a2 b3 a4)))) ∧ (¬ (nI k - nI k / 2 * 2) = 0 → (∀ x4 : Int32, x4 = nI j + 1 → (J (nI e) x4 l f a1 a2 b3 a4)))))) := by
    intro k b3 hk hJ
    refine ⟨by decide, ek_if (gj_rem k hk) (fun z => nm_r (nI_1 e) (nm_r (nI_1 j) ?_)) (fun z => nm_r (nI_1 j) ?_)⟩
    · rw [gj_ev, if_pos z] at hJ
      exact hJ
    · rw [gj_ev, if_neg z] at hJ
      exact hJ
  unfold wX_distanceOf_46
  unfold gj_s1 at hp
  refine gj_loose hR hr hj (fun z => ?_) (fun z => ?_)
  · rw [decide_eq_true z] at hp
    exact gj_str (b := true) hS hs hR hr hj hM (fun b3 hb => key _ b3 (Nat.lt_succ_of_le (Nat.le_trans (gj_stle gs gr j 16 j true 0 _) (by omega))) (hp b3 hb))
  · rw [decide_eq_false z] at hp
    exact gj_str (b := false) hS hs hR hr hj hM (fun b3 hb => key _ b3 (Nat.lt_succ_of_le (Nat.le_trans (gj_stle gs gr j 16 j false 0 _) (by omega))) (hp b3 hb))
theorem gj_d9 {post : Int32 → St2 → Prop} {s r : Nat} {gs gr : Nat → Nat} (hS : gj_S a1 s gs) (hs : s < 5) (hR : gj_S a1 r gr) (hr : r < 5) : ∀ c j e m (a3 : Nat → Int32), j + c = 8 → gj_M a3 m → (∀ b3, post ((4 - nI (gj_d2 gs gr 8 0 0 (gj_d1 gs gr c j e m).2)) - nI (gj_d1 gs gr c j e m).1 / 2) (l, f, a1, a2, b3, a4)) → wX_distanceOf_9 post (nI s) (nI r) (c + 1) (nI e) (nI j) l f a1 a2 a3 a4
  | 0, j, e, m, a3, h, hM, hp => by
    have z : j = 8 := by omega
    subst z
    exact br_t (by decide) ⟨9, gj_d90 hS hs hR hr 8 0 0 m a3 (by omega) hM hp⟩
  | c + 1, j, e, m, a3, h, hM, hp => by
    have hj : j < 8 := by omega
    rw [gj_d1] at hp
    refine br_f (gj_n8 j hj) ⟨vp_in_nI hj (by decide), ?_⟩
    rw [nI_clamp (by omega)]
    refine ek_if (gj_M0 hj hM) (fun z => ?_) (fun z => nm_r (nI_1 j) ?_)
    · rw [if_pos z] at hp
      refine gj_loose hS hs hj (fun z2 => br_f (by decide) ?_) (fun z2 => br_t rfl (gj_loose hR hr hj (fun z3 => br_f (by decide) ?_) (fun z3 => br_t rfl (nm_r (nI_1 j) ?_))))
      · rw [if_pos z2] at hp
        exact gj_d46 hS hs hR hr hj hM (fun b3 hb => gj_d9 hS hs hR hr c (j + 1) _ _ b3 (by omega) hb hp)
      · rw [if_neg z2, if_pos z3] at hp
        exact gj_d46 hS hs hR hr hj hM (fun b3 hb => gj_d9 hS hs hR hr c (j + 1) _ _ b3 (by omega) hb hp)
      · rw [if_neg z2, if_neg z3] at hp
        exact gj_d9 hS hs hR hr c (j + 1) e m a3 (by omega) hM hp
    · rw [if_neg z] at hp
      exact gj_d9 hS hs hR hr c (j + 1) e m a3 (by omega) hM hp
theorem gj_disO {post : Int32 → St2 → Prop} {p0 p1 : Int32} {a3 : Nat → Int32} (h : gj_O 3 p0) (hp : post (-1) (l, f, a1, a2, a3, a4)) : wpX_distance post (l, f, a1, a2, a3, a4) p0 p1 := by
  unfold wpX_distance
  exact gj_badO h (br_f (by decide) hp)
theorem gj_disR {post : Int32 → St2 → Prop} {s : Nat} {p1 : Int32} {a3 : Nat → Int32} (hs : s < 3) (h : gj_O 3 p1) (hp : post (-1) (l, f, a1, a2, a3, a4)) : wpX_distance post (l, f, a1, a2, a3, a4) (nI s) p1 := by
  unfold wpX_distance
  exact gj_badI hs (br_t rfl (gj_badO h (br_f (by decide) hp)))
theorem gj_disI {post : Int32 → St2 → Prop} {s r : Nat} {gs gr : Nat → Nat} {a3 : Nat → Int32} (hS : gj_S a1 s gs) (hs : s < 3) (hR : gj_S a1 r gr) (hr : r < 3) (hp : ∀ b3, post (gj_dist gs gr) (l, f, a1, a2, b3, a4)) : wpX_distance post (l, f, a1, a2, a3, a4) (nI s) (nI r) := by
  unfold wpX_distance
  refine gj_badI hs (br_t rfl (gj_badI hr (br_t rfl ?_)))
  unfold wpX_distanceOf
  exact gj_clr (fun b3 hb => ⟨9, gj_d9 hS (by omega) hR (by omega) 8 0 0 0 b3 (by omega) hb hp⟩)
end
end
section
/-! ===== the law's chain of checks, over bits ===== -/
section
variable {post : Int32 → St0 → Prop} {mc ms kc ks : Nat} {x0 x1 x2 x3 x4 x6 x7 x8 x9 x10 x11 : Int32}
theorem gj_413 {z : Int32} (hp : post 1 ()) : wL_lawOf_413 post mc ms z z kc ks := br_t rfl hp
theorem gj_384 {s lf one : Bool} {z : Int32} (hp : post 1 ()) (h11 : x11 = cond s (cond lf (cond one 1 0) 0) (-1)) : wL_lawOf_384 post mc ms x11 (gj_b s) (gj_b lf) (gj_b one) z z kc ks := by
  subst h11
  cases s
  · exact br_t rfl (br_t rfl (gj_413 hp))
  · cases lf
    · exact br_t rfl (br_f (by decide) (br_t rfl (gj_413 hp)))
    · cases one
      · exact br_t rfl (br_f (by decide) (br_f (by decide) (br_t rfl (gj_413 hp))))
      · exact br_t rfl (br_f (by decide) (br_f (by decide) (br_f (by decide) (gj_413 hp))))
theorem gj_350 {s r lf one : Bool} {z : Int32} (hp : post 1 ()) (h10 : x10 = cond r (cond lf (cond (decide (x3 = x0)) (cond one 4 3) 4) 4) (-1)) (h11 : x11 = cond s (cond lf (cond one 1 0) 0) (-1)) : wL_lawOf_350 post mc ms x0 x3 x10 x11 (gj_b s) (gj_b r) (gj_b lf) (gj_b one) z z kc ks := by
  refine br_t rfl ?_
  cases r
  · subst h10
    exact br_t rfl (gj_384 hp h11)
  · refine br_f (by decide) ?_
    cases lf
    · subst h10
      exact br_t rfl (gj_384 (lf := false) hp h11)
    · refine br_f (by decide) ?_
      by_cases e : x3 = x0
      · rw [decide_eq_true e] at h10
        refine br_t e ?_
        cases one
        · subst h10
          exact br_t rfl (gj_384 (lf := true) (one := false) hp h11)
        · subst h10
          exact br_f (by decide) (gj_384 (lf := true) (one := true) hp h11)
      · rw [decide_eq_false e] at h10
        subst h10
        exact br_f e (gj_384 (lf := true) hp h11)
theorem gj_304 {s r c fi se lf one : Bool} {z : Int32} (hp : post 1 ()) (hc1 : c = true → ¬ x4 < 0 ∧ x4 ≤ 7) (hc0 : c = false → x4 < 0 ∨ ¬ x4 ≤ 7)
    (h9 : x9 = cond s (cond c (cond fi x2 (cond se x1 (-4))) (-1)) (-1)) (h10 : x10 = cond r (cond lf (cond (decide (x3 = x0)) (cond one 4 3) 4) 4) (-1)) (h11 : x11 = cond s (cond lf (cond one 1 0) 0) (-1)) :
    wL_lawOf_304 post mc ms x0 x1 x2 x3 x4 x9 x10 x11 (gj_b s) (gj_b r) (gj_b fi) (gj_b se) (gj_b lf) (gj_b one) z z kc ks := by
  refine br_t rfl ?_
  cases s
  · subst h9
    exact br_t rfl (gj_350 (s := false) hp h10 h11)
  · refine br_f (by decide) ?_
    cases c
    · subst h9
      rcases hc0 rfl with t | t
      · exact br_t t (gj_350 (s := true) hp h10 h11)
      · exact br_c (fun _ => gj_350 (s := true) hp h10 h11) (fun _ => br_f t (gj_350 (s := true) hp h10 h11))
    · obtain ⟨t1, t2⟩ := hc1 rfl
      refine br_f t1 (br_t t2 ?_)
      cases fi
      · refine br_t rfl ?_
        cases se
        · subst h9
          exact br_t rfl (gj_350 (s := true) hp h10 h11)
        · subst h9
          exact br_f (by decide) (gj_350 (s := true) hp h10 h11)
      · subst h9
        exact br_f (by decide) (gj_350 (s := true) hp h10 h11)
theorem gj_270 {s r c d fi se lf one : Bool} {z : Int32} (hp : post 1 ()) (hc1 : c = true → ¬ x4 < 0 ∧ x4 ≤ 7) (hc0 : c = false → x4 < 0 ∨ ¬ x4 ≤ 7)
    (h8 : x8 = cond s (cond r (cond d (cond (decide (x0 = x3)) 0 1) 0) (-1)) (-1))
    (h9 : x9 = cond s (cond c (cond fi x2 (cond se x1 (-4))) (-1)) (-1)) (h10 : x10 = cond r (cond lf (cond (decide (x3 = x0)) (cond one 4 3) 4) 4) (-1)) (h11 : x11 = cond s (cond lf (cond one 1 0) 0) (-1)) :
    wL_lawOf_270 post mc ms x0 x1 x2 x3 x4 x8 x9 x10 x11 (gj_b s) (gj_b r) (gj_b d) (gj_b fi) (gj_b se) (gj_b lf) (gj_b one) z z kc ks := by
  refine br_t rfl ?_
  cases s
  · subst h8
    exact br_t rfl (gj_304 (s := false) hp hc1 hc0 h9 h10 h11)
  · refine br_f (by decide) ?_
    cases r
    · subst h8
      exact br_t rfl (gj_304 (s := true) (r := false) hp hc1 hc0 h9 h10 h11)
    · refine br_f (by decide) ?_
      cases d
      · subst h8
        exact br_t rfl (gj_304 (s := true) (r := true) hp hc1 hc0 h9 h10 h11)
      · refine br_f (by decide) ?_
        by_cases e : x0 = x3
        · rw [decide_eq_true e] at h8
          subst h8
          exact br_t e (gj_304 (s := true) (r := true) hp hc1 hc0 h9 h10 h11)
        · rw [decide_eq_false e] at h8
          subst h8
          exact br_f e (gj_304 (s := true) (r := true) hp hc1 hc0 h9 h10 h11)
theorem gj_236 {s r c d fi se lf one : Bool} {z : Int32} (hp : post 1 ()) (hc1 : c = true → ¬ x4 < 0 ∧ x4 ≤ 7) (hc0 : c = false → x4 < 0 ∨ ¬ x4 ≤ 7)
    (h7 : x7 = cond s (cond fi x2 (cond se x1 (-4))) (-1)) (h8 : x8 = cond s (cond r (cond d (cond (decide (x0 = x3)) 0 1) 0) (-1)) (-1))
    (h9 : x9 = cond s (cond c (cond fi x2 (cond se x1 (-4))) (-1)) (-1)) (h10 : x10 = cond r (cond lf (cond (decide (x3 = x0)) (cond one 4 3) 4) 4) (-1)) (h11 : x11 = cond s (cond lf (cond one 1 0) 0) (-1)) :
    wL_lawOf_236 post mc ms x0 x1 x2 x3 x4 x7 x8 x9 x10 x11 (gj_b s) (gj_b r) (gj_b d) (gj_b fi) (gj_b se) (gj_b lf) (gj_b one) z z kc ks := by
  refine br_t rfl ?_
  cases s
  · subst h7
    exact br_t rfl (gj_270 (s := false) hp hc1 hc0 h8 h9 h10 h11)
  · refine br_f (by decide) ?_
    cases fi
    · refine br_t rfl ?_
      cases se
      · subst h7
        exact br_t rfl (gj_270 (s := true) (fi := false) (se := false) hp hc1 hc0 h8 h9 h10 h11)
      · subst h7
        exact br_f (by decide) (gj_270 (s := true) (fi := false) (se := true) hp hc1 hc0 h8 h9 h10 h11)
    · subst h7
      exact br_f (by decide) (gj_270 (s := true) (fi := true) hp hc1 hc0 h8 h9 h10 h11)
theorem gj_222 {s r c d fi se lf one : Bool} (hp : post 1 ()) (hc1 : c = true → ¬ x4 < 0 ∧ x4 ≤ 7) (hc0 : c = false → x4 < 0 ∨ ¬ x4 ≤ 7)
    (h6 : x6 = cond d 1 (-1))
    (h7 : x7 = cond s (cond fi x2 (cond se x1 (-4))) (-1)) (h8 : x8 = cond s (cond r (cond d (cond (decide (x0 = x3)) 0 1) 0) (-1)) (-1))
    (h9 : x9 = cond s (cond c (cond fi x2 (cond se x1 (-4))) (-1)) (-1)) (h10 : x10 = cond r (cond lf (cond (decide (x3 = x0)) (cond one 4 3) 4) 4) (-1)) (h11 : x11 = cond s (cond lf (cond one 1 0) 0) (-1)) :
    wL_lawOf_222 post mc ms x0 x1 x2 x3 x4 x6 x7 x8 x9 x10 x11 (gj_b s) (gj_b r) (gj_b d) (gj_b fi) (gj_b se) (gj_b lf) (gj_b one) kc ks := by
  cases d
  · subst h6
    exact br_t rfl (gj_236 (d := false) hp hc1 hc0 h7 h8 h9 h10 h11)
  · subst h6
    exact br_f (by decide) (gj_236 (d := true) hp hc1 hc0 h7 h8 h9 h10 h11)
theorem gj_201 {x12 x13 x15 x16 x17 x18 : Int32} {en : Bool} (h : wL_lawOf_222 post mc ms x0 x1 x2 x3 x4 x6 x7 x8 x9 x10 x11 x12 x13 x15 x16 x17 x18 (gj_b (en && decide (x1 / 2 = x2 / 2))) kc ks) :
    wL_lawOf_201 post mc ms x0 x1 x2 x3 x4 x6 x7 x8 x9 x10 x11 x12 x13 (gj_b en) x15 x16 x17 x18 kc ks := by
  cases en
  · exact br_t rfl h
  · refine br_f (by decide) ⟨by decide, by decide, ?_⟩
    by_cases e : x1 / 2 = x2 / 2
    · rw [decide_eq_true e] at h
      exact br_t e h
    · rw [decide_eq_false e] at h
      exact br_f e h
theorem gj_179 {x12 x13 x14 : Int32} {d fi se : Bool} (h : wL_lawOf_201 post mc ms x0 x1 x2 x3 x4 x6 x7 x8 x9 x10 x11 x12 x13 x14 (gj_b d) (gj_b fi) (gj_b se) (gj_b (d && !fi && !se)) kc ks) :
    wL_lawOf_179 post mc ms x0 x1 x2 x3 x4 x6 x7 x8 x9 x10 x11 x12 x13 x14 (gj_b d) (gj_b fi) (gj_b se) kc ks := by
  cases d
  · exact br_t rfl h
  · refine br_f (by decide) ?_
    cases fi
    · refine br_t rfl ?_
      cases se
      · exact br_t rfl h
      · exact br_f (by decide) h
    · exact br_f (by decide) h
theorem gj_161 {x12 x13 x14 x16 : Int32} {d : Bool} (h : wL_lawOf_179 post mc ms x0 x1 x2 x3 x4 x6 x7 x8 x9 x10 x11 x12 x13 x14 (gj_b d) x16 (gj_b (d && decide (x4 = x2))) kc ks) :
    wL_lawOf_161 post mc ms x0 x1 x2 x3 x4 x6 x7 x8 x9 x10 x11 x12 x13 x14 (gj_b d) x16 kc ks := by
  cases d
  · exact br_t rfl h
  · refine br_f (by decide) ?_
    by_cases e : x4 = x2
    · rw [decide_eq_true e] at h
      exact br_t e h
    · rw [decide_eq_false e] at h
      exact br_f e h
theorem gj_143 {x12 x13 x14 : Int32} {d : Bool} (h : wL_lawOf_161 post mc ms x0 x1 x2 x3 x4 x6 x7 x8 x9 x10 x11 x12 x13 x14 (gj_b d) (gj_b (d && decide (x4 = x1))) kc ks) :
    wL_lawOf_143 post mc ms x0 x1 x2 x3 x4 x6 x7 x8 x9 x10 x11 x12 x13 x14 (gj_b d) kc ks := by
  cases d
  · exact br_t rfl h
  · refine br_f (by decide) ?_
    by_cases e : x4 = x1
    · rw [decide_eq_true e] at h
      exact br_t e h
    · rw [decide_eq_false e] at h
      exact br_f e h
theorem gj_126 {x13 : Int32} {s en : Bool} (h : wL_lawOf_143 post mc ms x0 x1 x2 x3 x4 x6 x7 x8 x9 x10 x11 (gj_b s) x13 (gj_b en) (gj_b (s && en)) kc ks) :
    wL_lawOf_126 post mc ms x0 x1 x2 x3 x4 x6 x7 x8 x9 x10 x11 (gj_b s) x13 (gj_b en) kc ks := by
  cases s
  · exact br_t rfl h
  · refine br_f (by decide) ?_
    cases en
    · exact br_t rfl h
    · exact br_f (by decide) h
/-- 'ends' -/
def gj_En (x1 x2 : Int32) (en : Bool) : Prop := (en = true → ¬ x1 < 0 ∧ ¬ 7 < x1 ∧ ¬ x2 < 0 ∧ ¬ 7 < x2 ∧ ¬ x1 = x2) ∧ (en = false → x1 < 0 ∨ 7 < x1 ∨ x2 < 0 ∨ 7 < x2 ∨ x1 = x2)
/-- 's in 0 .. 2' -/
def gj_In (x : Int32) (s : Bool) : Prop := (s = true → ¬ x < 0 ∧ ¬ 2 < x) ∧ (s = false → x < 0 ∨ 2 < x)
theorem gj_94 {x12 x13 : Int32} {en : Bool} (he : gj_En x1 x2 en) (h : wL_lawOf_126 post mc ms x0 x1 x2 x3 x4 x6 x7 x8 x9 x10 x11 x12 x13 (gj_b en) kc ks) :
    wL_lawOf_94 post mc ms x0 x1 x2 x3 x4 x6 x7 x8 x9 x10 x11 x12 x13 kc ks := by
  cases en
  · have h' : wL_lawOf_125 post mc ms x0 x1 x2 x3 x4 x6 x7 x8 x9 x10 x11 x12 x13 kc ks := h
    refine br_c (fun _ => h') (fun t1 => br_c (fun _ => h') (fun t2 => br_c (fun _ => h') (fun t3 => br_c (fun _ => h') (fun t4 => br_c (fun _ => h') (fun t5 => ?_)))))
    rcases he.2 rfl with z | z | z | z | z
    · exact absurd z t1
    · exact absurd z t2
    · exact absurd z t3
    · exact absurd z t4
    · exact absurd z t5
  · obtain ⟨t1, t2, t3, t4, t5⟩ := he.1 rfl
    exact br_f t1 (br_f t2 (br_f t3 (br_f t4 (br_f t5 h))))
theorem gj_78 {x12 : Int32} {r : Bool} (hr : gj_In x3 r) (h : wL_lawOf_94 post mc ms x0 x1 x2 x3 x4 x6 x7 x8 x9 x10 x11 x12 (gj_b r) kc ks) :
    wL_lawOf_78 post mc ms x0 x1 x2 x3 x4 x6 x7 x8 x9 x10 x11 x12 kc ks := by
  cases r
  · have h' : wL_lawOf_93 post mc ms x0 x1 x2 x3 x4 x6 x7 x8 x9 x10 x11 x12 kc ks := h
    refine br_c (fun _ => h') (fun t1 => br_c (fun _ => h') (fun t2 => ?_))
    rcases hr.2 rfl with z | z
    · exact absurd z t1
    · exact absurd z t2
  · obtain ⟨t1, t2⟩ := hr.1 rfl
    exact br_f t1 (br_f t2 h)
theorem gj_top {s : Bool} (hs : gj_In x0 s) (h : wL_lawOf_78 post mc ms x0 x1 x2 x3 x4 x6 x7 x8 x9 x10 x11 (gj_b s) kc ks) :
    (x0 < 0 → wL_lawOf_77 post mc ms x0 x1 x2 x3 x4 x6 x7 x8 x9 x10 x11 kc ks) ∧ (¬ x0 < 0 → ((2 < x0 → wL_lawOf_77 post mc ms x0 x1 x2 x3 x4 x6 x7 x8 x9 x10 x11 kc ks) ∧ (¬ 2 < x0 → wL_lawOf_78 post mc ms x0 x1 x2 x3 x4 x6 x7 x8 x9 x10 x11 1 kc ks))) := by
  cases s
  · have h' : wL_lawOf_77 post mc ms x0 x1 x2 x3 x4 x6 x7 x8 x9 x10 x11 kc ks := h
    refine br_c (fun _ => h') (fun t1 => br_c (fun _ => h') (fun t2 => ?_))
    rcases hs.2 rfl with z | z
    · exact absurd z t1
    · exact absurd z t2
  · obtain ⟨t1, t2⟩ := hs.1 rfl
    exact br_f t1 (br_f t2 h)
/-- the whole chain -/
theorem gj_fin {s r en c d fi se lf one : Bool} (hp : post 1 ()) (hs : gj_In x0 s) (hr : gj_In x3 r) (he : gj_En x1 x2 en) (hc1 : c = true → ¬ x4 < 0 ∧ x4 ≤ 7) (hc0 : c = false → x4 < 0 ∨ ¬ x4 ≤ 7)
    (ed : d = (s && en)) (ef : fi = (d && decide (x4 = x1))) (eg : se = (d && decide (x4 = x2))) (el : lf = (d && !fi && !se)) (eo : one = (en && decide (x1 / 2 = x2 / 2)))
    (h6 : x6 = cond d 1 (-1))
    (h7 : x7 = cond s (cond fi x2 (cond se x1 (-4))) (-1)) (h8 : x8 = cond s (cond r (cond d (cond (decide (x0 = x3)) 0 1) 0) (-1)) (-1))
    (h9 : x9 = cond s (cond c (cond fi x2 (cond se x1 (-4))) (-1)) (-1)) (h10 : x10 = cond r (cond lf (cond (decide (x3 = x0)) (cond one 4 3) 4) 4) (-1)) (h11 : x11 = cond s (cond lf (cond one 1 0) 0) (-1)) :
    (x0 < 0 → wL_lawOf_77 post mc ms x0 x1 x2 x3 x4 x6 x7 x8 x9 x10 x11 kc ks) ∧ (¬ x0 < 0 → ((2 < x0 → wL_lawOf_77 post mc ms x0 x1 x2 x3 x4 x6 x7 x8 x9 x10 x11 kc ks) ∧ (¬ 2 < x0 → wL_lawOf_78 post mc ms x0 x1 x2 x3 x4 x6 x7 x8 x9 x10 x11 1 kc ks))) := by
  refine gj_top hs (gj_78 hr (gj_94 he (gj_126 (gj_143 (gj_161 (gj_179 (gj_201 ?_)))))))
  rw [← ed, ← ef, ← eg, ← el, ← eo]
  exact gj_222 hp hc1 hc0 h6 h7 h8 h9 h10 h11
end
/-! ===== ranges as bits ===== -/
theorem gj_gt {n : Nat} {x : Int32} (hn : n + 1 < 2 ^ 31) (h : nI (n + 1) ≤ x) : nI n < x := Int32.lt_of_lt_of_le (nI_lt (Nat.lt_succ_self n) hn) h
theorem gj_O3 {x : Int32} (h : gj_O 3 x) : gj_In x false := by
  refine ⟨fun z => absurd z (by decide), fun _ => ?_⟩
  rcases h with h | h
  · exact Or.inl h
  · exact Or.inr (gj_gt (n := 2) (by decide) h)
theorem gj_I3 {k : Nat} (h : k < 3) : gj_In (nI k) true := by
  refine ⟨fun _ => ⟨nI_pos (by omega), ?_⟩, fun z => absurd z (by decide)⟩
  exact nI_nlt (a := 2) (b := k) (by omega) (by decide)
theorem gj_O8 {x : Int32} (h : gj_O 8 x) : x < 0 ∨ 7 < x := by
  rcases h with h | h
  · exact Or.inl h
  · exact Or.inr (gj_gt (n := 7) (by decide) h)
theorem gj_I8 {k : Nat} (h : k < 8) : ¬ nI k < 0 ∧ ¬ 7 < nI k := ⟨nI_pos (by omega), nI_nlt (a := 7) (b := k) (by omega) (by decide)⟩
theorem gj_c0 {x : Int32} (h : gj_O 8 x) : x < 0 ∨ ¬ x ≤ 7 := by
  rcases gj_O8 h with z | z
  · exact Or.inl z
  · exact Or.inr (Int32.not_le.mpr z)
theorem gj_c1' {k : Nat} (h : k < 8) : ¬ nI k < 0 ∧ nI k ≤ 7 := ⟨nI_pos (by omega), nI_le (b := 7) (by omega) (by decide)⟩
theorem gj_One {n j : Nat} {x : Int32} (hn : n < 2 ^ 31) (h : gj_O n x) (hj : j < n) : ¬ x = nI j := by
  intro e
  subst e
  rcases h with h | h
  · exact absurd h (nI_pos (by omega))
  · exact absurd h (nI_ge hj hn)
end
section
/-! ===== the law's states: slot s is loose (q) or holds the joint a b alone, the other slots are loose ===== -/
def gj_Q (q : Bool) (a b : Nat) : Nat → Nat := cond q gj_0 (gj_P a b)
def gj_T (a1 : Nat → Int32) (s : Nat) (q : Bool) (a b : Nat) : Prop := gj_S a1 s (gj_Q q a b) ∧ ∀ t, t < 3 → t ≠ s → gj_S a1 t gj_0
/-- an int and whether it lies in 0 .. n - 1 -/
def gj_R (n : Nat) (x : Int32) (c : Bool) : Prop := (c = true ∧ ∃ j, j < n ∧ x = nI j) ∨ (c = false ∧ gj_O n x)
theorem gj_Rx (n : Nat) (hn : n < 2 ^ 31) (x : Int32) : ∃ c, gj_R n x c := by
  rcases gj_ran n hn x with h | h
  · exact ⟨false, Or.inr ⟨rfl, h⟩⟩
  · exact ⟨true, Or.inl ⟨rfl, h⟩⟩
theorem gj_RIn {x : Int32} {c : Bool} (h : gj_R 3 x c) : gj_In x c := by
  rcases h with ⟨e, j, hj, ex⟩ | ⟨e, h⟩
  · subst e
    subst ex
    exact gj_I3 hj
  · subst e
    exact gj_O3 h
theorem gj_Rc1 {x : Int32} {c : Bool} (h : gj_R 8 x c) : c = true → ¬ x < 0 ∧ x ≤ 7 := by
  intro ec
  rcases h with ⟨_, j, hj, ex⟩ | ⟨e, h⟩
  · subst ex
    exact gj_c1' hj
  · rw [ec] at e
    exact absurd e (by decide)
theorem gj_Rc0 {x : Int32} {c : Bool} (h : gj_R 8 x c) : c = false → x < 0 ∨ ¬ x ≤ 7 := by
  intro ec
  rcases h with ⟨e, j, hj, ex⟩ | ⟨_, h⟩
  · rw [ec] at e
    exact absurd e (by decide)
  · exact gj_c0 h
theorem gj_nI8 {i j : Nat} (hi : i < 8) (hj : j < 8) (h : ¬ i = j) : ¬ nI i = nI j := fun z => h ((nI_eq (by omega) (by omega)).mp z)
theorem gj_Pa (a b : Nat) : gj_P a b a = b := if_pos rfl
theorem gj_Pb {a b : Nat} (h : a ≠ b) : gj_P a b b = a := by
  unfold gj_P
  rw [if_neg (fun z => h z.symm), if_pos rfl]
theorem gj_Pc {a b c : Nat} (h1 : ¬ c = a) (h2 : ¬ c = b) : gj_P a b c = 8 := by
  unfold gj_P
  rw [if_neg h1, if_neg h2]
section
variable {l f : Int32} {a1 a2 a3 a4 : Nat → Int32} {s a b : Nat} {q c r : Bool} {p3 p4 : Int32}
/-- the answer of partner and cut where the joint stands -/
def gj_ans (p4 : Int32) (a b : Nat) : Int32 := cond (decide (p4 = nI a)) (nI b) (cond (decide (p4 = nI b)) (nI a) (-4))
theorem gj_ansO (h : gj_O 8 p4) (ha : a < 8) (hb : b < 8) : gj_ans p4 a b = -4 := by
  unfold gj_ans
  rw [decide_eq_false (gj_One (by decide) h ha), decide_eq_false (gj_One (by decide) h hb)]
  rfl
theorem gj_ansI {k : Nat} (hk : k < 8) (ha : a < 8) (hb : b < 8) (hab : a ≠ b) : gj_ans (nI k) a b = gj_v (gj_P a b k) := by
  unfold gj_ans
  by_cases e1 : k = a
  · rw [e1, decide_eq_true rfl, gj_Pa]
    exact (if_neg (by omega)).symm
  · rw [decide_eq_false (gj_nI8 hk ha e1)]
    by_cases e2 : k = b
    · rw [e2, decide_eq_true rfl, gj_Pb hab]
      exact (if_neg (by omega)).symm
    · rw [decide_eq_false (gj_nI8 hk hb e2), gj_Pc e1 e2]
      rfl
theorem gj_parT {post : Int32 → Prop} (hT : gj_T a1 s q a b) (hs : s < 3) (ha : a < 8) (hb : b < 8) (hab : a ≠ b) (hc : gj_R 8 p4 c) (hp : post (cond q (-4) (gj_ans p4 a b))) : wpX_partner post (l, f, a1, a2, a3, a4) (nI s) p4 := by
  rcases hc with ⟨_, k, hk, ex⟩ | ⟨_, ho⟩
  · subst ex
    rw [gj_ansI hk ha hb hab] at hp
    refine gj_parI hT.1 hs hk ?_
    cases q
    · exact hp
    · exact hp
  · rw [gj_ansO ho ha hb] at hp
    refine gj_parO hs ho ?_
    cases q
    · exact hp
    · exact hp
theorem gj_slot (hT : gj_T a1 s q a b) {k : Nat} (hk : k < 3) : gj_S a1 k (gj_Q (q || decide (¬ k = s)) a b) := by
  by_cases e : k = s
  · have : (q || decide (¬ k = s)) = q := by
      rw [decide_eq_false (fun z => z e), Bool.or_false]
    rw [this, e]
    exact hT.1
  · have : (q || decide (¬ k = s)) = true := by
      rw [decide_eq_true e, Bool.or_true]
    rw [this]
    exact hT.2 k hk e
theorem gj_disT {post : Int32 → St2 → Prop} (hT : gj_T a1 s q a b) (hs : s < 3) (ha : a < 8) (hb : b < 8) (hab : a ≠ b) (hr : gj_R 3 p3 r) (hp : ∀ b3, post (cond r (cond q 0 (cond (decide (nI s = p3)) 0 1)) (-1)) (l, f, a1, a2, b3, a4)) : wpX_distance post (l, f, a1, a2, a3, a4) (nI s) p3 := by
  rcases hr with ⟨er, k, hk, ex⟩ | ⟨er, ho⟩
  · subst er
    subst ex
    by_cases e : k = s
    · subst e
      refine gj_disI hT.1 hs hT.1 hs (fun b3 => ?_)
      have h := hp b3
      rw [decide_eq_true rfl] at h
      cases q
      · rw [show gj_Q false a b = gj_P a b from rfl, gj_tD1 a ha b hb hab]
        exact h
      · rw [show gj_Q true a b = gj_0 from rfl, gj_tD0]
        exact h
    · refine gj_disI hT.1 hs (hT.2 k hk e) hk (fun b3 => ?_)
      have h := hp b3
      rw [decide_eq_false (gj_nI8 (by omega) (by omega) (fun z => e z.symm))] at h
      cases q
      · rw [show gj_Q false a b = gj_P a b from rfl, gj_tD2 a ha b hb hab]
        exact h
      · rw [show gj_Q true a b = gj_0 from rfl, gj_tD0]
        exact h
  · subst er
    exact gj_disR hs ho (hp a3)
theorem gj_cutT {post : Int32 → St2 → Prop} (hT : gj_T a1 s true a b) (hs : s < 3) (hc : gj_R 8 p4 c) (hp : post (cond c (-4) (-1)) (l, f, a1, a2, a3, a4)) : wpX_cut post (l, f, a1, a2, a3, a4) (nI s) p4 := by
  rcases hc with ⟨ec, k, hk, ex⟩ | ⟨ec, ho⟩
  · subst ec
    subst ex
    exact gj_cutL hT.1 hs hk rfl hp
  · subst ec
    exact gj_cutO hs ho hp
theorem gj_Tcut (hT : gj_T a1 s false a b) {i j : Nat} (hi : i < 8) (hj : j < 8) (h : ∀ t, t < 8 → t ≠ i → t ≠ j → gj_P a b t = 8) : gj_T (upd (upd a1 (s * 8 + i) (-1)) (s * 8 + j) (-1)) s true a b :=
  ⟨gj_Scut hT.1 hi hj h, fun t ht e => gj_Soth (hT.2 t ht e) e hi hj⟩
theorem gj_cutF {post : Int32 → St2 → Prop} (hT : gj_T a1 s false a b) (hs : s < 3) (ha : a < 8) (hb : b < 8) (hab : a ≠ b) (hc : gj_R 8 p4 c) (hp : ∀ b1, gj_T b1 s (decide (p4 = nI a) || decide (p4 = nI b)) a b → post (cond c (gj_ans p4 a b) (-1)) (l, f, b1, a2, a3, a4)) : wpX_cut post (l, f, a1, a2, a3, a4) (nI s) p4 := by
  rcases hc with ⟨ec, k, hk, ex⟩ | ⟨ec, ho⟩
  · subst ec
    subst ex
    unfold gj_ans at hp
    by_cases e1 : k = a
    · subst e1
      rw [decide_eq_true rfl] at hp
      exact gj_cutI hT.1 hs hk hb (gj_Pa k b) (hp _ (gj_Tcut hT hk hb (fun t _ h1 h2 => gj_Pc h1 h2)))
    · rw [decide_eq_false (gj_nI8 hk ha e1)] at hp
      by_cases e2 : k = b
      · subst e2
        rw [decide_eq_true rfl] at hp
        exact gj_cutI hT.1 hs hk ha (gj_Pb hab) (hp _ (gj_Tcut hT hk ha (fun t _ h1 h2 => gj_Pc h2 h1)))
      · rw [decide_eq_false (gj_nI8 hk hb e2)] at hp
        exact gj_cutL hT.1 hs hk (gj_Pc e1 e2) (hp a1 hT)
  · subst ec
    rw [decide_eq_false (gj_One (by decide) ho ha), decide_eq_false (gj_One (by decide) ho hb)] at hp
    exact gj_cutO hs ho (hp a1 hT)
theorem gj_chrT {post : Int32 → St2 → Prop} (hT : gj_T a1 s q a b) (hs : s < 3) (ha : a < 8) (hb : b < 8) (hab : a ≠ b) (hr : gj_R 3 p3 r) (hp : ∀ b3, post (cond r (cond q 4 (cond (decide (p3 = nI s)) (cond (decide (nI a / 2 = nI b / 2)) 4 3) 4)) (-1)) (l, f, a1, a2, b3, a4)) : wpX_chromosomes post (l, f, a1, a2, a3, a4) p3 := by
  rcases hr with ⟨er, k, hk, ex⟩ | ⟨er, ho⟩
  · subst er
    subst ex
    by_cases e : k = s
    · subst e
      refine gj_chrI hT.1 hs (fun b3 => ?_)
      have h := hp b3
      rw [decide_eq_true (rfl : nI k = nI k)] at h
      cases q
      · rw [show gj_Q false a b = gj_P a b from rfl, gj_tC a ha b hb hab]
        exact h
      · rw [show gj_Q true a b = gj_0 from rfl, gj_tC0.1]
        exact h
    · refine gj_chrI (hT.2 k hk e) hk (fun b3 => ?_)
      have h := hp b3
      rw [decide_eq_false (gj_nI8 (by omega) (by omega) e)] at h
      rw [gj_tC0.1]
      cases q
      · exact h
      · exact h
  · subst er
    exact gj_chrO ho (hp a3)
theorem gj_rndT {post : Int32 → St2 → Prop} (hT : gj_T a1 s q a b) (hs : s < 3) (ha : a < 8) (hb : b < 8) (hab : a ≠ b) (hp : ∀ b3, post (cond q 0 (cond (decide (nI a / 2 = nI b / 2)) 1 0)) (l, f, a1, a2, b3, a4)) : wpX_round post (l, f, a1, a2, a3, a4) (nI s) := by
  refine gj_rndI hT.1 hs (fun b3 => ?_)
  have h := hp b3
  cases q
  · rw [show gj_Q false a b = gj_P a b from rfl, gj_tR a ha b hb hab]
    exact h
  · rw [show gj_Q true a b = gj_0 from rfl, gj_tC0.2]
    exact h
end
/-! ===== the constructor ===== -/
theorem gj_in40 {post : St2 → Prop} {mc ms kc ks : Nat} {l f : Int32} {a2 a3 a4 : Nat → Int32} (hp : ∀ b1 : Nat → Int32, (∀ i, i < 40 → b1 i = -1) → post (l, f, b1, a2, a3, a4)) : ∀ c j (b1 : Nat → Int32), j + c = 40 → (∀ i, i < j → b1 i = -1) → wX_init_40 post mc ms kc ks l f (c + 1) (nI j) b1 a2 a3 a4
  | 0, j, b1, h, hb => by
    have e : j = 40 := by omega
    subst e
    exact br_t (by decide) (hp b1 hb)
  | c + 1, j, b1, h, hb => by
    refine br_f (gj_n40 j (by omega)) ⟨vp_in_nI (by omega) (by decide), fun x ex => nm_r (nI_1 j) (gj_in40 hp c (j + 1) x (by omega) (fun i hi => ?_))⟩
    rw [nI_clamp (by omega)] at ex
    subst ex
    by_cases e : i = j
    · rw [e, pk_us]
    · rw [pk_un e]
      exact hb i (by omega)
theorem gj_init {post : St2 → Prop} (hp : ∀ b1 a2 a3 a4, (∀ t, t < 3 → gj_S b1 t gj_0) → post (0, 0, b1, a2, a3, a4)) : wpX_init post 4 1012 (0, 0) := by
  unfold wpX_init
  refine ⟨by decide, by decide, by decide, by decide, by decide, by decide, by decide, by decide, 41, ?_⟩
  refine gj_in40 (fun b1 hb => hp b1 _ _ _ (fun t ht j hj => ⟨(by decide : (8 : Nat) < 9), ?_⟩)) 40 0 _ (by omega) (fun i hi => absurd hi (by omega))
  rw [hb (t * 8 + j) (by omega)]
  rfl
end
section
/-! ===== the law ===== -/
theorem gj_Enx (x1 x2 : Int32) : ∃ en, gj_En x1 x2 en ∧ ((en = true ∧ ∃ a b, a < 8 ∧ b < 8 ∧ a ≠ b ∧ x1 = nI a ∧ x2 = nI b) ∨ (en = false ∧ (gj_O 8 x1 ∨ ∃ a, a < 8 ∧ x1 = nI a ∧ (gj_O 8 x2 ∨ x2 = x1)))) := by
  rcases gj_ran 8 (by decide) x1 with h | ⟨a, ha, e1⟩
  · refine ⟨false, ⟨fun z => absurd z (by decide), fun _ => ?_⟩, Or.inr ⟨rfl, Or.inl h⟩⟩
    rcases gj_O8 h with z | z
    · exact Or.inl z
    · exact Or.inr (Or.inl z)
  · rcases gj_ran 8 (by decide) x2 with h | ⟨b, hb, e2⟩
    · refine ⟨false, ⟨fun z => absurd z (by decide), fun _ => ?_⟩, Or.inr ⟨rfl, Or.inr ⟨a, ha, e1, Or.inl h⟩⟩⟩
      rcases gj_O8 h with z | z
      · exact Or.inr (Or.inr (Or.inl z))
      · exact Or.inr (Or.inr (Or.inr (Or.inl z)))
    · by_cases e : a = b
      · have e' : x1 = x2 := by rw [e1, e2, e]
        exact ⟨false, ⟨fun z => absurd z (by decide), fun _ => Or.inr (Or.inr (Or.inr (Or.inr e')))⟩, Or.inr ⟨rfl, Or.inr ⟨a, ha, e1, Or.inr e'.symm⟩⟩⟩
      · refine ⟨true, ⟨fun _ => ?_, fun z => absurd z (by decide)⟩, Or.inl ⟨rfl, a, b, ha, hb, e, e1, e2⟩⟩
        rw [e1, e2]
        exact ⟨(gj_I8 ha).1, (gj_I8 ha).2, (gj_I8 hb).1, (gj_I8 hb).2, gj_nI8 ha hb e⟩
theorem gj_joinF {post : Int32 → St2 → Prop} {l f : Int32} {a1 a2 a3 a4 : Nat → Int32} {s : Nat} {p1 p2 : Int32} (hs : s < 3) (h : gj_O 8 p1 ∨ ∃ a, a < 8 ∧ p1 = nI a ∧ (gj_O 8 p2 ∨ p2 = p1)) (hp : post (-1) (l, f, a1, a2, a3, a4)) : wpX_join post (l, f, a1, a2, a3, a4) (nI s) p1 p2 := by
  rcases h with h | ⟨a, ha, e, h | h⟩
  · exact gj_joinA hs h hp
  · subst e
    exact gj_joinB hs ha h hp
  · subst h
    subst e
    exact gj_joinE hs ha hp
theorem gj_sw (u v : Bool) (x y : Int32) : cond (u || v) x y = cond (true && !u && !v) y x := by
  cases u <;> cases v <;> rfl
theorem gj_lawOf {post : Int32 → St0 → Prop} (hp : post 1 ()) (p0 p1 p2 p3 p4 : Int32) : wpL_lawOf post 516 8256 () p0 p1 p2 p3 p4 := by
  unfold wpL_lawOf
  refine ⟨by decide, by decide, 4, 1012, by decide, by decide, gj_init (fun a1 a2 a3 a4 h0 => ?_)⟩
  obtain ⟨r, hr⟩ := gj_Rx 3 (by decide) p3
  obtain ⟨c, hc⟩ := gj_Rx 8 (by decide) p4
  obtain ⟨en, hen, hE⟩ := gj_Enx p1 p2
  rcases gj_ran 3 (by decide) p0 with ho | ⟨s, hs, e⟩
  · have hT : gj_T a1 0 true 0 1 := ⟨h0 0 (by decide), fun t ht _ => h0 t ht⟩
    refine gj_joinS ho (gj_parS ho (gj_disO ho (gj_cutS ho (gj_chrT hT (by decide) (by decide) (by decide) (by decide) hr (fun b3 => gj_rndO ho ?_)))))
    exact gj_fin (s := false) (r := r) (en := en) (c := c) (d := false) (fi := false) (se := false) (lf := false) hp (gj_O3 ho) (gj_RIn hr) hen (gj_Rc1 hc) (gj_Rc0 hc) rfl rfl rfl rfl rfl rfl rfl rfl rfl rfl rfl
  · subst e
    rcases hE with ⟨ee, a, b, ha, hb, hab, e1, e2⟩ | ⟨ee, hF⟩
    · subst ee
      subst e1
      subst e2
      have hT : gj_T (upd (upd a1 (s * 8 + a) (nI b)) (s * 8 + b) (nI a)) s false a b := ⟨gj_Stie (h0 s hs) ha hb hab, fun t ht e => gj_Soth (h0 t ht) e ha hb⟩
      refine gj_joinI (h0 s hs) hs ha hb hab (gj_parT hT hs ha hb hab hc (gj_disT hT hs ha hb hab hr (fun b3 => gj_cutF hT hs ha hb hab hc (fun b1 hT1 => gj_chrT hT1 hs ha hb hab hr (fun c3 => gj_rndT hT1 hs ha hb hab (fun d3 => ?_))))))
      exact gj_fin (s := true) (r := r) (en := true) (c := c) (d := true) (fi := decide (p4 = nI a)) (se := decide (p4 = nI b)) hp (gj_I3 hs) (gj_RIn hr) hen (gj_Rc1 hc) (gj_Rc0 hc) rfl rfl rfl rfl rfl rfl rfl rfl rfl (congrArg (fun z => cond r z (-1)) (gj_sw _ _ _ _)) (gj_sw _ _ _ _)
    · subst ee
      have hT : gj_T a1 s true 0 1 := ⟨h0 s hs, fun t ht _ => h0 t ht⟩
      refine gj_joinF hs hF (gj_parT hT hs (by decide) (by decide) (by decide) hc (gj_disT hT hs (by decide) (by decide) (by decide) hr (fun b3 => gj_cutT hT hs hc (gj_chrT hT hs (by decide) (by decide) (by decide) hr (fun c3 => gj_rndT hT hs (by decide) (by decide) (by decide) (fun d3 => ?_))))))
      exact gj_fin (s := true) (r := r) (en := false) (c := c) (d := false) (fi := false) (se := false) (lf := false) hp (gj_I3 hs) (gj_RIn hr) hen (gj_Rc1 hc) (gj_Rc0 hc) rfl rfl rfl rfl rfl rfl rfl rfl rfl rfl rfl
theorem gj_cell {post : Int32 → Prop} {L : Nat} {xs : Nat → Int32} {k : Nat} (hL : L ≤ 5) (hk : k < 5) (h : ∀ v, post v) : wpL_cellAt post L xs () (nI k) := by
  unfold wpL_cellAt
  exact pk_le L k (fun _ => h 0) (fun z => ⟨vp_in_nI z (by omega), h _⟩)
theorem i_vc (xs : Nat → Int32) (L : Nat) (hL : L ≤ 5) : wpL_law (fun r => r = 1) L xs := by
  unfold wpL_law
  refine gj_cell (k := 0) hL (by decide) (fun p0 => ?_)
  refine gj_cell (k := 1) hL (by decide) (fun p1 => ?_)
  refine gj_cell (k := 2) hL (by decide) (fun p2 => ?_)
  refine gj_cell (k := 3) hL (by decide) (fun p3 => ?_)
  refine gj_cell (k := 4) hL (by decide) (fun p4 => ?_)
  exact ⟨516, 8256, by decide, by decide, gj_lawOf rfl p0 p1 p2 p3 p4⟩
end
