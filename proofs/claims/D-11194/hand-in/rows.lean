section
/-! numbers, marks, nodes -/
theorem nt_ne {k : Nat} (h : k < 2 ^ 31) : ¬ nI k = -1 := fun e => nI_pos h (by rw [e]; decide)
theorem nt_ix (k i : Nat) : nI k * 4 + nI i = nI (k * 4 + i) := by
  rw [show (4 : Int32) = nI 4 from rfl, pk_mul, nI_add]
theorem nt_ix0 (k : Nat) : nI k * 4 + 0 = nI (k * 4) := by
  have h := nt_ix k 0
  rw [nI_0] at h
  exact h
theorem nt_ix6 (k i : Nat) : nI k * 6 + nI i = nI (k * 6 + i) := by
  rw [show (6 : Int32) = nI 6 from rfl, pk_mul, nI_add]
theorem nt_fill {f s : Nat → Int32} {i k : Nat} {x : Int32} (hk : k = i) (h : ∀ j, j < i → s j = f j) (hx : x = f i) : ∀ j, j < i + 1 → upd s k x j = f j := by
  intro j hj
  rw [hk]
  by_cases e : j = i
  · rw [e, pk_us, hx]
  · rw [pk_un e]
    exact h j (by omega)
/-- b' is b with the places of l marked -/
def nt_mk (b b' : Nat → Int32) (l : List Nat) : Prop := ∀ j, b' j = 0 ↔ (b j = 0 ∧ j ∉ l)
theorem nt_mk_0 {b : Nat → Int32} : nt_mk b b [] := fun j => ⟨fun h => ⟨h, List.not_mem_nil⟩, fun h => h.1⟩
theorem nt_mk_u {b : Nat → Int32} (k : Nat) : nt_mk b (upd b k 1) [k] := by
  intro j
  by_cases e : j = k
  · subst e
    rw [pk_us]
    exact ⟨fun h => absurd h (by decide), fun h => absurd (List.mem_singleton.mpr rfl) h.2⟩
  · rw [pk_un e]
    exact ⟨fun h => ⟨h, fun g => e (List.mem_singleton.mp g)⟩, fun h => h.1⟩
theorem nt_mk_t {b b' b'' : Nat → Int32} {l l' : List Nat} (h : nt_mk b b' l) (h' : nt_mk b' b'' l') : nt_mk b b'' (l ++ l') := by
  intro j
  rw [h' j, h j, List.mem_append]
  constructor
  · intro t
    exact ⟨t.1.1, fun g => g.elim t.1.2 t.2⟩
  · intro t
    exact ⟨⟨t.1, fun g => t.2 (Or.inl g)⟩, fun g => t.2 (Or.inr g)⟩
/-- a node's block: null, or of size 0, or of size 1 with the block of its word; l: what it needs -/
def nt_nd (a3 a4 : Nat → Int32) (x : Int32) (l : List Nat) : Prop :=
  (x = -1 ∧ l = []) ∨ (∃ k, k < 128 ∧ x = nI k ∧ a3 k = 0 ∧ l = [k]) ∨ (∃ k m, k < 128 ∧ m < 128 ∧ x = nI k ∧ a3 k = 1 ∧ a4 (k * 4) = nI m ∧ l = [k, m])
theorem nt_nd_n {a3 a4 : Nat → Int32} : nt_nd a3 a4 (-1) [] := Or.inl ⟨rfl, rfl⟩
theorem nt_nd_0 {a3 a4 : Nat → Int32} (k : Nat) (hk : k < 128) (h : a3 k = 0) : nt_nd a3 a4 (nI k) [k] := Or.inr (Or.inl ⟨k, hk, rfl, h, rfl⟩)
theorem nt_nd_1 {a3 a4 : Nat → Int32} (k m : Nat) (hk : k < 128) (hm : m < 128) (h : a3 k = 1) (h4 : a4 (k * 4) = nI m) : nt_nd a3 a4 (nI k) [k, m] := Or.inr (Or.inr ⟨k, m, hk, hm, rfl, h, h4, rfl⟩)
/-- a row of files: x at f, null elsewhere -/
def nt_one (a : Nat → Int32) (f : Nat) (x : Int32) : Prop := a f = x ∧ ∀ j, j < 6 → j ≠ f → a j = -1
theorem nt_one_nd {a3 a4 a : Nat → Int32} {f i : Nat} {x : Int32} {l : List Nat} (h : nt_one a f x) (hn : nt_nd a3 a4 x l) (hi : i < 6) : nt_nd a3 a4 (a i) (if i = f then l else []) := by
  by_cases e : i = f
  · rw [if_pos e, e, h.1]
    exact hn
  · rw [if_neg e, h.2 i hi e]
    exact nt_nd_n
def nt_ch (ch : Int32) (l : List Nat) : Prop := (ch = -1 ∧ l = []) ∨ ∃ c, c < 128 ∧ ch = nI c ∧ l = [c]
section
variable {post : St2 → Prop} {ch cd nu sg : Int32} {a1 a2 a3 a4 a5 a6 a7 a8 a9 a10 a11 a12 a13 a14 : Nat → Int32}
theorem nt_need {x : Int32} {l : List Nat} (hn : nt_nd a3 a4 x l) (H : ∀ b, nt_mk a14 b l → post (ch, cd, nu, sg, a1, a2, a3, a4, a5, a6, a7, a8, a9, a10, a11, a12, a13, b)) : wpX_need post (ch, cd, nu, sg, a1, a2, a3, a4, a5, a6, a7, a8, a9, a10, a11, a12, a13, a14) x := by
  rcases hn with ⟨rfl, rfl⟩ | ⟨k, hk, rfl, hs, rfl⟩ | ⟨k, m, hk, hm, rfl, hs, hw, rfl⟩
  · exact br_t rfl (H _ nt_mk_0)
  · refine br_f (nt_ne (by omega)) ⟨pk_in k 128 hk, nm_e ⟨1, pk_in k 128 hk, ?_⟩⟩
    rw [nI_clamp (show k < 2 ^ 31 by omega)]
    exact br_t (by rw [hs]; decide) (H _ (nt_mk_u k))
  · refine br_f (nt_ne (by omega)) ⟨pk_in k 128 hk, nm_e ⟨2, pk_in k 128 hk, ?_⟩⟩
    rw [nI_clamp (show k < 2 ^ 31 by omega)]
    refine br_f (by rw [hs]; decide) ⟨pk_in (k * 4) 512 (by omega) (nt_ix0 k), ?_⟩
    rw [nt_ix0 k, nI_clamp (show k * 4 < 2 ^ 31 by omega), hw, nI_clamp (show m < 2 ^ 31 by omega)]
    refine ⟨pk_in m 128 hm, nm_e (nm_e ⟨pk_in k 128 hk, ?_⟩)⟩
    rw [nI_clamp (show k < 2 ^ 31 by omega)]
    exact br_t (by rw [hs]; decide) (H _ (nt_mk_t (nt_mk_u k) (nt_mk_u m)))
theorem nt_sv94 {p : Nat} (hp : nu &&& 1 = nI p) (hp2 : p < 2) (h : post (ch, 0, nu, sg, a1, a2, a3, a4, a5, a6, a7, a8, a9, a10, a11, a12, a13, a14)) : wX_survey_94 post ch 0 nu sg a1 a2 a3 a4 a5 a6 a7 a8 a9 a10 a11 a12 a13 a14 :=
  ⟨pk_in p 2 hp2 hp, nm_e ⟨1, br_t (by decide) h⟩⟩
theorem nt_sv24 {z : Nat → Int32} {f p : Nat} {x1 x2 x3 : Int32} {L1 L2 L3 lc : List Nat} (hp : nu &&& 1 = nI p) (hp2 : p < 2) (hz : ∀ j, j < 128 → z j = 0)
    (h1 : nt_one a11 f x1) (h2 : nt_one a12 f x2) (h3 : nt_one (fun j => a9 (p * 6 + j)) f x3) (n1 : nt_nd a3 a4 x1 L1) (n2 : nt_nd a3 a4 x2 L2) (n3 : nt_nd a3 a4 x3 L3) (hc : nt_ch ch lc) (hf : f < 6)
    (H : ∀ b, (∀ j, j < 128 → (b j = 0 ↔ j ∉ L1 ++ L2 ++ L3 ++ lc)) → post (ch, 0, nu, sg, a1, a2, a3, a4, a5, a6, a7, a8, a9, a10, a11, a12, a13, b)) : ∃ n, wX_survey_24 post n 0 ch 0 nu sg a1 a2 a3 a4 a5 a6 a7 a8 a9 a10 a11 a12 a13 z := by
  refine pk_loop (fun n i b => wX_survey_24 post n (nI i) ch 0 nu sg a1 a2 a3 a4 a5 a6 a7 a8 a9 a10 a11 a12 a13 b) (fun i b => nt_mk z b (if f < i then L1 ++ L2 ++ L3 else [])) 6 0 z (by omega) ?_ ?_ ?_
  · rw [if_neg (by omega)]
    exact nt_mk_0
  · intro n b h
    rw [if_pos hf] at h
    refine pk_le 6 6 (fun _ => ?_) (fun t => absurd t (by omega))
    rcases hc with ⟨rfl, rfl⟩ | ⟨c, hc, rfl, rfl⟩
    · refine br_t rfl (nt_sv94 hp hp2 (H b (fun j hj => ?_)))
      rw [h j, List.append_nil]
      exact ⟨fun t => t.2, fun t => ⟨hz j hj, t⟩⟩
    · refine br_f (nt_ne (by omega)) ⟨pk_in c 128 hc, nm_e ?_⟩
      rw [nI_clamp (show c < 2 ^ 31 by omega)]
      refine nt_sv94 hp hp2 (H _ (fun j hj => ?_))
      rw [nt_mk_t h (nt_mk_u c) j]
      exact ⟨fun t => t.2, fun t => ⟨hz j hj, t⟩⟩
  · intro n i b hi h hw
    have e6 : (nu &&& 1) * 6 + nI i = nI (p * 6 + i) := by rw [hp]; exact nt_ix6 p i
    refine pk_le 6 i (fun t => absurd t (by omega)) (fun _ => ⟨pk_in i 6 hi, ?_⟩)
    rw [nI_clamp (show i < 2 ^ 31 by omega)]
    refine nt_need (nt_one_nd h1 n1 hi) (fun b1 m1 => ⟨pk_in i 6 hi, nt_need (nt_one_nd h2 n2 hi) (fun b2 m2 => ⟨pk_in (p * 6 + i) 12 (by omega) e6, ?_⟩)⟩)
    rw [e6, nI_clamp (show p * 6 + i < 2 ^ 31 by omega)]
    refine nt_need (nt_one_nd (a := fun j => a9 (p * 6 + j)) h3 n3 hi) (fun b3 m3 => nm_r (nI_1 i) (hw b3 ?_))
    have g := nt_mk_t (nt_mk_t (nt_mk_t h m1) m2) m3
    by_cases e : i = f
    · rw [if_neg (show ¬ f < i by omega), if_pos e, if_pos e, if_pos e, List.nil_append] at g
      rw [if_pos (show f < i + 1 by omega)]
      exact g
    · rw [if_neg e, if_neg e, if_neg e, List.append_nil, List.append_nil, List.append_nil] at g
      by_cases e2 : f < i
      · rw [if_pos (show f < i + 1 by omega)]
        rw [if_pos e2] at g
        exact g
      · rw [if_neg (show ¬ f < i + 1 by omega)]
        rw [if_neg e2] at g
        exact g
theorem nt_survey {f p : Nat} {x1 x2 x3 : Int32} {L1 L2 L3 lc : List Nat} (hp : nu &&& 1 = nI p) (hp2 : p < 2)
    (h1 : nt_one a11 f x1) (h2 : nt_one a12 f x2) (h3 : nt_one (fun j => a9 (p * 6 + j)) f x3) (n1 : nt_nd a3 a4 x1 L1) (n2 : nt_nd a3 a4 x2 L2) (n3 : nt_nd a3 a4 x3 L3) (hc : nt_ch ch lc) (hf : f < 6)
    (H : ∀ b, (∀ j, j < 128 → (b j = 0 ↔ j ∉ L1 ++ L2 ++ L3 ++ lc)) → post (ch, 0, nu, sg, a1, a2, a3, a4, a5, a6, a7, a8, a9, a10, a11, a12, a13, b)) : wpX_survey post (ch, 0, nu, sg, a1, a2, a3, a4, a5, a6, a7, a8, a9, a10, a11, a12, a13, a14) :=
  pk_loop (fun n i b => wX_survey_2 post ch 0 nu sg n (nI i) a1 a2 a3 a4 a5 a6 a7 a8 a9 a10 a11 a12 a13 b) (fun i b => ∀ j, j < i → b j = 0) 128 0 a14 (by omega) (fun j hj => absurd hj (by omega))
    (fun n b h => pk_le 128 128 (fun _ => nt_sv24 hp hp2 h h1 h2 h3 n1 n2 n3 hc hf H) (fun t => absurd t (by omega)))
    (fun n i b hi h hw => pk_le 128 i (fun t => absurd t (by omega)) (fun _ => ⟨pk_in i 128 hi, nm_e (nm_r (nI_1 i) (hw _ (nt_fill (f := fun _ => 0) (nI_clamp (by omega)) h rfl)))⟩))
end
end
section
/-! a block that nothing needs -/
section
variable {ch cd nu sg : Int32} {a1 a2 a3 a4 a5 a6 a7 a8 a9 a10 a11 a12 a13 a14 : Nat → Int32}
theorem nt_free {post : Int32 → Prop} {r : Nat} (hr : r < 8) (h0 : a14 r = 0) (H : ∀ c, 1 ≤ c → c ≤ 8 → post (nI c)) : wpX_freeIn post (ch, cd, nu, sg, a1, a2, a3, a4, a5, a6, a7, a8, a9, a10, a11, a12, a13, a14) 0 := by
  refine nm_r (e' := nI 0) (by decide) ?_
  refine pk_loop (fun n i c => wX_freeIn_7 post 0 ch cd nu sg a1 a2 a3 a4 a5 a6 a7 a8 a9 a10 a11 a12 a13 a14 n (nI c) (nI i)) (fun i c => c ≤ i ∧ (r < i → 1 ≤ c)) 8 0 0 (by omega) ⟨by omega, fun h => absurd h (by omega)⟩ ?_ ?_
  · intro n c h
    exact pk_le 8 8 (fun _ => H c (h.2 hr) h.1) (fun t => absurd t (by omega)) (by decide)
  · intro n i c hi h hw
    refine pk_le 8 i (fun t => absurd t (by omega)) (fun _ => ⟨pk_in i 128 (by omega), ?_⟩) (by decide)
    rw [nI_clamp (show i < 2 ^ 31 by omega)]
    refine br_c (fun _ => nm_r (nI_1 c) (nm_r (nI_1 i) (hw (c + 1) ⟨by omega, fun _ => by omega⟩))) (fun z => nm_r (nI_1 i) (hw c ⟨by omega, fun t => h.2 ?_⟩))
    rcases Nat.lt_or_ge r i with g | g
    · exact g
    · exact absurd (show a14 i = 0 by rw [show i = r by omega]; exact h0) z
theorem nt_f54 {post : Int32 → St2 → Prop} {r : Nat} (hr : r < 8) (h0 : a14 r = 0) (h1 : ∀ j, j < r → ¬ a14 j = 0) (H : post (nI r) (ch, cd, nu, 0, a1, a2, a3, a4, upd a5 r (-1), a6, a7, a8, a9, a10, a11, a12, a13, a14)) : wX_fresh_54 post ch cd nu 0 a1 a2 a3 a4 a5 a6 a7 a8 a9 a10 a11 a12 a13 a14 := by
  have L := pk_loopD (fun n i c => wX_fresh_75 post ch cd nu 0 a1 a2 a3 a4 a5 a6 a7 a8 a9 a10 a11 a12 a13 a14 n (nI c) (nI i + (-1))) (fun i c => c < 128 ∧ i ≤ 8 ∧ (i ≤ r → c = r)) ?_ ?_ 8 0 ⟨by omega, by omega, fun h => absurd h (by omega)⟩
  · refine nm_r (e' := nI 0) (by decide) (nm_r (e' := nI 8 + (-1)) (by decide) ⟨9, L⟩)
  · intro n c h
    have e : c = r := h.2.2 (Nat.zero_le _)
    subst e
    refine br_t (by decide) ⟨pk_in c 128 h.1, nm_e ?_⟩
    rw [nI_clamp (show c < 2 ^ 31 by omega)]
    exact H
  · intro n i c h hw
    have hi := h.2.1
    show wX_fresh_75 post ch cd nu 0 a1 a2 a3 a4 a5 a6 a7 a8 a9 a10 a11 a12 a13 a14 (n + 1) (nI c) (nI (i + 1) + (-1))
    rw [pk_m1]
    refine br_f ?_ ⟨pk_in i 128 (by omega), ?_⟩
    · exact nI_pos (n := i) (by omega)
    · rw [nI_clamp (show i < 2 ^ 31 by omega)]
      refine br_c (fun z => nm_e (hw i ⟨by omega, by omega, fun t => ?_⟩)) (fun z => nm_e (hw c ⟨h.1, by omega, fun t => ?_⟩))
      · rcases Nat.lt_or_ge i r with g | g
        · exact absurd z (h1 i g)
        · omega
      · rcases Nat.lt_or_ge i r with g | g
        · exact h.2.2 g
        · exact absurd (show a14 i = 0 by rw [show i = r by omega]; exact h0) z
/-- what the survey finds: r is the least block of the first segment that nothing needs -/
def nt_S (f : Nat) (ch nu : Int32) (a3 a4 a9 a11 a12 : Nat → Int32) (r : Nat) : Prop :=
  ∃ (p : Nat) (x1 x2 x3 : Int32) (L1 L2 L3 lc : List Nat), p < 2 ∧ nu &&& 1 = nI p ∧ nt_one a11 f x1 ∧ nt_one a12 f x2 ∧ nt_one (fun j => a9 (p * 6 + j)) f x3 ∧ nt_nd a3 a4 x1 L1 ∧ nt_nd a3 a4 x2 L2 ∧ nt_nd a3 a4 x3 L3 ∧ nt_ch ch lc ∧ f < 6 ∧ r < 8 ∧ r ∉ L1 ++ L2 ++ L3 ++ lc ∧ (∀ j, j < r → j ∈ L1 ++ L2 ++ L3 ++ lc)
theorem nt_fresh {post : Int32 → St2 → Prop} {f r : Nat} (hS : nt_S f ch nu a3 a4 a9 a11 a12 r) (H : ∀ b, post (nI r) (ch, 0, nu, 0, a1, a2, a3, a4, upd a5 r (-1), a6, a7, a8, a9, a10, a11, a12, a13, b)) : wpX_fresh post (ch, 0, nu, 0, a1, a2, a3, a4, a5, a6, a7, a8, a9, a10, a11, a12, a13, a14) := by
  obtain ⟨p, x1, x2, x3, L1, L2, L3, lc, hp2, hp, h1, h2, h3, n1, n2, n3, hc, hf, hr, m1, m2⟩ := hS
  refine nt_survey hp hp2 h1 h2 h3 n1 n2 n3 hc hf (fun b hb => ?_)
  have e0 : b r = 0 := (hb r (by omega)).mpr m1
  refine nt_free hr e0 (fun c hc1 hc2 => br_f (nI_ne0 (by omega) (by omega)) (nt_f54 hr e0 (fun j hj z => ?_) (H b)))
  exact (hb j (by omega)).mp z (m2 j hj)
end
end
section
/-! nodes written -/
section
variable {ch cd nu sg : Int32} {a1 a2 a3 a4 a5 a6 a7 a8 a9 a10 a11 a12 a13 a14 : Nat → Int32}
theorem nt_bad0 {post : Int32 → Prop} {f : Nat} (hf : f < 6) (h : post 0) : wpX_bad post (ch, cd, nu, sg, a1, a2, a3, a4, a5, a6, a7, a8, a9, a10, a11, a12, a13, a14) (nI f) :=
  br_f (nI_pos (by omega)) (br_t (nI_lt (b := 6) hf (by decide)) h)
theorem nt_bad1 {post : Int32 → Prop} {x : Int32} (hx : x < 0 ∨ ¬ x < 6) (h : post 1) : wpX_bad post (ch, cd, nu, sg, a1, a2, a3, a4, a5, a6, a7, a8, a9, a10, a11, a12, a13, a14) x :=
  br_c (fun _ => h) (fun g => br_f (hx.elim (fun t => absurd t g) id) h)
/-- a row that is s outside the four places of node r -/
def nt_fr (r : Nat) (s s' : Nat → Int32) : Prop := ∀ j, (j < r * 4 ∨ r * 4 + 4 ≤ j) → s' j = s j
theorem nt_fr_u {r i : Nat} {s s' : Nat → Int32} {x : Int32} (h : nt_fr r s s') (hi : i < 4) : nt_fr r s (upd s' (r * 4 + i) x) := by
  intro j hj
  rw [pk_un (by omega)]
  exact h j hj
theorem nt_wn25 {post : St2 → Prop} {f r : Nat} {x3 : Int32} (hf : f < 6) (hr : r < 8) (ho : x3 = -1 ∨ ∃ k, k < 128 ∧ x3 = nI k)
    (H : ∀ s, nt_fr r a4 s → post (ch, cd, nu, sg, a1, a2, a3, s, a5, a6, a7, a8, a9, a10, upd a11 f (nI r), a12, a13, a14)) : ∃ n, wX_writeNode_25 post (nI f) x3 (-1) (-1) (nI r) ch cd nu sg n 0 a1 a2 a3 a4 a5 a6 a7 a8 a9 a10 a11 a12 a13 a14 := by
  refine pk_loop (fun n i s => wX_writeNode_25 post (nI f) x3 (-1) (-1) (nI r) ch cd nu sg n (nI i) a1 a2 a3 s a5 a6 a7 a8 a9 a10 a11 a12 a13 a14) (fun _ s => nt_fr r a4 s) 4 0 a4 (by omega) (fun j _ => rfl) ?_ ?_
  · intro n s h
    refine pk_le 4 4 (fun _ => ⟨pk_in f 6 hf, nm_e ?_⟩) (fun t => absurd t (by omega))
    rw [nI_clamp (show f < 2 ^ 31 by omega)]
    exact H s h
  · intro n i s hi h hw
    have h62 : ∀ z0, wX_writeNode_62 post (wX_writeNode_25 post (nI f) x3 (-1) (-1) (nI r) ch cd nu sg n) (nI f) x3 (-1) (-1) (nI r) (nI i) z0 ch cd nu sg a1 a2 a3 s a5 a6 a7 a8 a9 a10 a11 a12 a13 a14 := by
      intro z0
      refine br_f (nt_ne (by omega)) ⟨pk_in (r * 4 + i) 512 (by omega) (nt_ix r i), nm_e (nm_r (nI_1 i) (hw _ ?_))⟩
      rw [nt_ix r i, nI_clamp (show r * 4 + i < 2 ^ 31 by omega)]
      exact nt_fr_u h hi
    refine pk_le 4 i (fun t => absurd t (by omega)) (fun _ => ?_)
    rcases ho with rfl | ⟨k, hk, rfl⟩
    · exact br_t rfl (h62 (-1))
    · exact br_f (nt_ne (by omega)) ⟨pk_in k 128 hk, br_c (fun _ => ⟨pk_in (k * 4 + i) 512 (by omega) (nt_ix k i), h62 _⟩) (fun _ => h62 (-1))⟩
theorem nt_wnode {post : St2 → Prop} {f r : Nat} {x3 sz : Int32} (hf : f < 6) (hr : r < 8) (hS : nt_S f ch nu a3 a4 a9 a11 a12 r) (ho : x3 = -1 ∨ ∃ k, k < 128 ∧ x3 = nI k)
    (H : ∀ s b, nt_fr r a4 s → post (ch, 0, nu, 0, a1, upd a2 r (nI f), upd a3 r sz, s, upd a5 r (-1), a6, a7, a8, a9, a10, upd a11 f (nI r), a12, a13, b)) : wpX_writeNode post (ch, 0, nu, 0, a1, a2, a3, a4, a5, a6, a7, a8, a9, a10, a11, a12, a13, a14) (nI f) sz x3 (-1) (-1) := by
  refine nt_fresh hS (fun b => ⟨pk_in r 128 (by omega), nm_e ⟨pk_in r 128 (by omega), nm_e ?_⟩⟩)
  rw [nI_clamp (show r < 2 ^ 31 by omega)]
  exact nt_wn25 hf hr ho (fun s hs => H s b hs)
theorem nt_create {post : Int32 → St2 → Prop} {f r : Nat} (hf : f < 6) (hr : r < 8) (h11 : a11 f = -1) (hS : nt_S f ch nu a3 a4 a9 a11 a12 r)
    (H : ∀ s b, nt_fr r a4 s → post 0 (ch, 0, nu, 0, a1, upd a2 r (nI f), upd a3 r 0, s, upd a5 r (-1), a6, a7, a8, a9, a10, upd a11 f (nI r), a12, upd a13 f 1, b)) : wpX_create post (ch, 0, nu, 0, a1, a2, a3, a4, a5, a6, a7, a8, a9, a10, a11, a12, a13, a14) (nI f) := by
  unfold wpX_create
  refine nt_bad0 hf (br_t rfl ⟨pk_in f 6 hf, ?_⟩)
  rw [nI_clamp (show f < 2 ^ 31 by omega)]
  exact br_t h11 (nt_wnode hf hr hS (Or.inl rfl) (fun s b hs => ⟨pk_in f 6 hf, nm_e (H s b hs)⟩))
theorem nt_create1 {post : Int32 → St2 → Prop} {x : Int32} (hx : x < 0 ∨ ¬ x < 6) (H : post (-1) (ch, cd, nu, sg, a1, a2, a3, a4, a5, a6, a7, a8, a9, a10, a11, a12, a13, a14)) : wpX_create post (ch, cd, nu, sg, a1, a2, a3, a4, a5, a6, a7, a8, a9, a10, a11, a12, a13, a14) x := by
  unfold wpX_create
  refine nt_bad1 hx ?_
  exact br_f (by decide) H
theorem nt_w73 {post : Int32 → St2 → Prop} {f k r q : Nat} {v : Int32} (hf : f < 6) (hk : k < 128) (hr : r < 8) (hq : q < 8) (hS : nt_S f ch nu a3 a4 a9 a11 a12 r)
    (hS2 : ∀ s, nt_fr r a4 s → nt_S f ch nu (upd (upd a3 r 1) r 1) (upd s (r * 4) (nI r)) a9 (upd a11 f (nI r)) a12 q)
    (H : ∀ s b, nt_fr r a4 s → s (r * 4) = nI q → post 1 (ch, 0, nu, 0, upd a1 q v, upd a2 r (nI f), upd (upd a3 r 1) r 1, s, upd (upd a5 r (-1)) q (-1), a6, a7, a8, a9, a10, upd a11 f (nI r), a12, a13, b)) : wX_write_73 post (nI f) 0 v (nI k) 1 ch 0 nu 0 a1 a2 a3 a4 a5 a6 a7 a8 a9 a10 a11 a12 a13 a14 := by
  refine nt_wnode hf hr hS (Or.inr ⟨k, hk, rfl⟩) (fun s b hs => ⟨pk_in f 6 hf, nm_r (e' := nI r) (by rw [nI_clamp (show f < 2 ^ 31 by omega), pk_us]) ⟨pk_in r 128 (by omega), nm_e ⟨pk_in (r * 4) 512 (by omega) (nt_ix0 r), nm_e ?_⟩⟩⟩)
  rw [nt_ix0 r, nI_clamp (show r < 2 ^ 31 by omega), nI_clamp (show r * 4 < 2 ^ 31 by omega)]
  refine nt_fresh (hS2 s hs) (fun b' => ⟨pk_in q 128 (by omega), nm_e ⟨pk_in (r * 4) 512 (by omega), nm_e ?_⟩⟩)
  rw [nI_clamp (show q < 2 ^ 31 by omega)]
  exact H _ b' (nt_fr_u (i := 0) (nt_fr_u (i := 0) hs (by omega)) (by omega)) pk_us
theorem nt_write {post : Int32 → St2 → Prop} {f k r q : Nat} {v : Int32} (hf : f < 6) (hk : k < 128) (hr : r < 8) (hq : q < 8) (h11 : a11 f = nI k) (h3 : a3 k = 0 ∨ a3 k = 1) (hS : nt_S f ch nu a3 a4 a9 a11 a12 r)
    (hS2 : ∀ s, nt_fr r a4 s → nt_S f ch nu (upd (upd a3 r 1) r 1) (upd s (r * 4) (nI r)) a9 (upd a11 f (nI r)) a12 q)
    (H : ∀ s b, nt_fr r a4 s → s (r * 4) = nI q → post 1 (ch, 0, nu, 0, upd a1 q v, upd a2 r (nI f), upd (upd a3 r 1) r 1, s, upd (upd a5 r (-1)) q (-1), a6, a7, a8, a9, a10, upd a11 f (nI r), a12, a13, b)) : wpX_write post (ch, 0, nu, 0, a1, a2, a3, a4, a5, a6, a7, a8, a9, a10, a11, a12, a13, a14) (nI f) 0 v := by
  have W := nt_w73 (post := post) (v := v) (a14 := a14) hf hk hr hq hS hS2 H
  unfold wpX_write
  refine nt_bad0 hf (br_t rfl ⟨pk_in f 6 hf, nm_r (e' := nI k) (by rw [nI_clamp (show f < 2 ^ 31 by omega), h11]) (br_f (nt_ne (by omega)) (br_f (by decide) ⟨pk_in k 128 hk, ?_⟩))⟩)
  rw [nI_clamp (show k < 2 ^ 31 by omega)]
  rcases h3 with h3 | h3
  · rw [h3]
    exact br_f (by decide) (br_f (by decide) ⟨pk_in k 128 hk, br_t rfl W⟩)
  · rw [h3]
    exact br_f (by decide) (br_f (by decide) ⟨pk_in k 128 hk, br_f (by decide) ⟨pk_in k 128 hk, W⟩⟩)
theorem nt_write1 {post : Int32 → St2 → Prop} {x v : Int32} (hx : x < 0 ∨ ¬ x < 6) (H : post (-1) (ch, cd, nu, sg, a1, a2, a3, a4, a5, a6, a7, a8, a9, a10, a11, a12, a13, a14)) : wpX_write post (ch, cd, nu, sg, a1, a2, a3, a4, a5, a6, a7, a8, a9, a10, a11, a12, a13, a14) x 0 v := by
  unfold wpX_write
  refine nt_bad1 hx ?_
  exact br_f (by decide) H
end
end
section
/-! packs -/
section
variable {ch cd nu sg : Int32} {a1 a2 a3 a4 a5 a6 a7 a8 a9 a10 a11 a12 a13 a14 : Nat → Int32}
theorem nt_one_eq {a a' : Nat → Int32} {f : Nat} {x : Int32} (hf : f < 6) (h : nt_one a f x) (e : ∀ j, j < 6 → a' j = a j) : nt_one a' f x :=
  ⟨by rw [e f hf]; exact h.1, fun j hj hn => by rw [e j hj]; exact h.2 j hj hn⟩
/-- row s at p * 6: the six of c -/
def nt_pk (p : Nat) (c s : Nat → Int32) : Prop := ∀ j, j < 6 → s (p * 6 + j) = c j
theorem nt_p29 {post : St2 → Prop} {p f r : Nat} {n : Int32} (hp2 : p < 2) (hr : r < 8) (hS : ∀ s, nt_pk p a12 s → nt_S f (-1) n a3 a4 s a11 a12 r)
    (H : ∀ s b, nt_pk p a12 s → post (nI r, 0, n, 0, a1, a2, a3, a4, upd a5 r (-1), a6, a7, upd a8 p n, s, upd a10 p (nI r), a11, a12, a13, b)) : ∃ m, wX_writePack_29 post (nI p) ch cd n 0 m 0 a1 a2 a3 a4 a5 a6 a7 a8 a9 a10 a11 a12 a13 a14 := by
  refine pk_loop (fun m i s => wX_writePack_29 post (nI p) ch cd n 0 m (nI i) a1 a2 a3 a4 a5 a6 a7 a8 s a10 a11 a12 a13 a14) (fun i s => ∀ j, j < i → s (p * 6 + j) = a12 j) 6 0 a9 (by omega) (fun j hj => absurd hj (by omega)) ?_ ?_
  · intro m s h
    refine pk_le 6 6 (fun _ => nt_fresh (hS s h) (fun b => ⟨pk_in p 2 hp2, nm_e ⟨pk_in p 2 hp2, nm_e ?_⟩⟩)) (fun t => absurd t (by omega))
    rw [nI_clamp (show p < 2 ^ 31 by omega)]
    exact H s b h
  · intro m i s hi h hw
    refine pk_le 6 i (fun t => absurd t (by omega)) (fun _ => ⟨pk_in i 6 hi, pk_in (p * 6 + i) 12 (by omega) (nt_ix6 p i), nm_e (nm_r (nI_1 i) (hw _ ?_))⟩)
    rw [nt_ix6 p i, nI_clamp (show p * 6 + i < 2 ^ 31 by omega), nI_clamp (show i < 2 ^ 31 by omega)]
    intro j hj
    by_cases e : j = i
    · rw [e, pk_us]
    · rw [pk_un (by omega)]
      exact h j (by omega)
theorem nt_pack {post : St2 → Prop} {p f r : Nat} {n : Int32} (hn : nu + 1 = n) (hp : n &&& 1 = nI p) (hp2 : p < 2) (hr : r < 8) (hS : ∀ s, nt_pk p a12 s → nt_S f (-1) n a3 a4 s a11 a12 r)
    (H : ∀ s b, nt_pk p a12 s → post (nI r, 0, n, 0, a1, a2, a3, a4, upd a5 r (-1), a6, upd a7 p n, upd a8 p n, s, upd a10 p (nI r), a11, a12, a13, b)) : wpX_writePack post (ch, cd, nu, 0, a1, a2, a3, a4, a5, a6, a7, a8, a9, a10, a11, a12, a13, a14) := by
  refine nm_r hn (nm_r hp ⟨pk_in p 2 hp2, nm_e ?_⟩)
  rw [nI_clamp (show p < 2 ^ 31 by omega)]
  exact nt_p29 hp2 hr hS H
theorem nt_chk {post : St2 → Prop} {p f r : Nat} {n x : Int32} {l : List Nat} (hn : nu + 1 = n) (hp : n &&& 1 = nI p) (hp2 : p < 2) (hr : r < 8) (hf : f < 6) (h11 : nt_one a11 f x) (hx : nt_nd a3 a4 x l) (hl : r ∉ l) (hl2 : ∀ j, j < r → j ∈ l)
    (H : ∀ s t y b, nt_one (fun j => s (p * 6 + j)) f x → nt_one t f x → (∀ j, j < 6 → y j = 0) → post (nI r, 0, n, 0, a1, a2, a3, a4, upd a5 r (-1), a6, upd a7 p n, upd a8 p n, s, upd a10 p (nI r), a11, t, y, b)) : wpX_checkpoint post (ch, cd, nu, 0, a1, a2, a3, a4, a5, a6, a7, a8, a9, a10, a11, a12, a13, a14) := by
  refine pk_loop (σ := (Nat → Int32) × (Nat → Int32)) (fun m i s => wX_checkpoint_2 post ch cd nu 0 m (nI i) a1 a2 a3 a4 a5 a6 a7 a8 a9 a10 a11 s.1 s.2 a14) (fun i s => (∀ j, j < i → s.1 j = a11 j) ∧ (∀ j, j < i → s.2 j = 0)) 6 0 (a12, a13) (by omega) ⟨fun j hj => absurd hj (by omega), fun j hj => absurd hj (by omega)⟩ ?_ ?_
  · rintro m ⟨t, y⟩ ⟨ht, hy⟩
    have h12 : nt_one t f x := nt_one_eq hf h11 ht
    have h9 : ∀ s, nt_pk p t s → nt_one (fun j => s (p * 6 + j)) f x := fun s hs => nt_one_eq hf h12 hs
    refine pk_le 6 6 (fun _ => nt_pack hn hp hp2 hr (f := f) (r := r) (fun s hs => ?_) (fun s b hs => H s t y b (h9 s hs) h12 hy)) (fun t => absurd t (by omega))
    refine ⟨p, x, x, x, l, l, l, [], hp2, hp, h11, h12, h9 s hs, hx, hx, hx, Or.inl ⟨rfl, rfl⟩, hf, hr, fun g => ?_, fun j hj => ?_⟩
    · rw [List.append_nil, List.mem_append, List.mem_append] at g
      rcases g with (g | g) | g <;> exact hl g
    · rw [List.append_nil, List.mem_append]
      exact Or.inr (hl2 j hj)
  · rintro m i ⟨t, y⟩ hi ⟨ht, hy⟩ hw
    refine pk_le 6 i (fun t => absurd t (by omega)) (fun _ => ⟨pk_in i 6 hi, pk_in i 6 hi, nm_e ⟨pk_in i 6 hi, nm_e (nm_r (nI_1 i) (hw (_, _) ⟨nt_fill (nI_clamp (by omega)) ht (by rw [nI_clamp (by omega)]), nt_fill (f := fun _ => 0) (nI_clamp (by omega)) hy rfl⟩))⟩⟩)
theorem nt_init {post : St2 → Prop} (H : ∀ m s t u y b, m 0 = -1 → nt_one u 0 (-1) → nt_one (fun j => s (1 * 6 + j)) 0 (-1) → nt_one t 0 (-1) → (∀ j, j < 6 → y j = 0) →
      post (nI 0, 0, 1, 0, fun _ => 0, fun _ => 0, fun _ => 0, fun _ => 0, m, fun _ => 0, upd (fun _ => 0) 1 1, upd (fun _ => 0) 1 1, s, upd (fun _ => 0) 1 (nI 0), u, t, y, b)) :
    wpX_init post 14 1316 (0, 0, 0, 0) := by
  refine ⟨by decide, by decide, by decide, by decide, by decide, by decide, by decide, by decide, by decide, by decide, by decide, by decide, by decide, by decide, by decide, by decide, by decide, by decide, by decide, by decide, by decide, by decide, by decide, by decide, by decide, by decide, by decide, by decide, ?_⟩
  refine pk_loop (fun n i m => wX_init_122 post 14 1316 14 1316 0 0 0 0 n (nI i) (fun _ => 0) (fun _ => 0) (fun _ => 0) (fun _ => 0) m (fun _ => 0) (fun _ => 0) (fun _ => 0) (fun _ => 0) (fun _ => 0) (fun _ => 0) (fun _ => 0) (fun _ => 0) (fun _ => 0)) (fun _ _ => True) 128 0 (fun _ => 0) (by omega) trivial ?_ ?_
  · intro n m _
    refine pk_le 128 128 (fun _ => ?_) (fun t => absurd t (by omega))
    refine pk_loop (σ := (Nat → Int32) × (Nat → Int32)) (fun n i s => wX_init_144 post 14 1316 14 1316 0 0 0 0 n (nI i) (fun _ => 0) (fun _ => 0) (fun _ => 0) (fun _ => 0) m (fun _ => 0) (fun _ => 0) (fun _ => 0) (fun _ => 0) (fun _ => 0) s.1 s.2 (fun _ => 0) (fun _ => 0)) (fun i s => ∀ j, j < i → s.1 j = -1) 6 0 (fun _ => 0, fun _ => 0) (by omega) (fun j hj => absurd hj (by omega)) ?_ ?_
    · rintro n ⟨u, t⟩ hu
      have h11 : nt_one u 0 (-1) := ⟨hu 0 (by omega), fun j hj _ => hu j hj⟩
      exact pk_le 6 6 (fun _ => nt_chk (n := 1) (p := 1) (f := 0) (r := 0) (x := -1) (l := []) (by decide) (by decide) (by omega) (by omega) (by omega) h11 nt_nd_n List.not_mem_nil (fun j hj => absurd hj (by omega)) (fun s t y b hs ht hy => H _ s t u y b pk_us h11 hs ht hy)) (fun t => absurd t (by omega))
    · rintro n i ⟨u, t⟩ hi hu hw
      exact pk_le 6 i (fun t => absurd t (by omega)) (fun _ => ⟨pk_in i 6 hi, nm_e ⟨pk_in i 6 hi, nm_e (nm_r (nI_1 i) (hw (_, _) (nt_fill (f := fun _ => -1) (nI_clamp (by omega)) hu rfl)))⟩⟩)
  · intro n i m hi _ hw
    exact pk_le 128 i (fun t => absurd t (by omega)) (fun _ => ⟨pk_in i 128 hi, nm_e (nm_r (nI_1 i) (hw _ trivial))⟩)
/-- how many files there are -/
theorem nt_count {post : Int32 → Prop} {f : Nat} {x : Int32} (hf : f < 6) (h : nt_one a11 f x) (H : post (if x = -1 then 0 else 1)) : wpX_count post (ch, cd, nu, sg, a1, a2, a3, a4, a5, a6, a7, a8, a9, a10, a11, a12, a13, a14) := by
  refine pk_loop (fun n i c => wX_count_4 post ch cd nu sg a1 a2 a3 a4 a5 a6 a7 a8 a9 a10 a11 a12 a13 a14 n c (nI i)) (fun i c => c = if f < i then (if x = -1 then 0 else 1) else 0) 6 0 0 (by omega) (by rw [if_neg (by omega)]) ?_ ?_
  · intro n c hc
    rw [if_pos hf] at hc
    refine pk_le 6 6 (fun _ => ?_) (fun t => absurd t (by omega))
    rw [hc]
    exact H
  · intro n i c hi hc hw
    refine pk_le 6 i (fun t => absurd t (by omega)) (fun _ => ⟨pk_in i 6 hi, ?_⟩)
    rw [nI_clamp (show i < 2 ^ 31 by omega)]
    by_cases e : i = f
    · rw [if_neg (by omega)] at hc
      rw [e, h.1]
      by_cases ex : x = -1
      · refine br_t ex (nm_r (nI_1 f) ?_)
        rw [← e]
        refine hw c ?_
        rw [if_pos (by omega), if_pos ex]
        exact hc
      · refine br_f ex (nm_r (e' := 1) (by rw [hc]; rfl) (nm_r (nI_1 f) ?_))
        rw [← e]
        refine hw 1 ?_
        rw [if_pos (by omega), if_neg ex]
    · refine br_t (h.2 i hi e) (nm_r (nI_1 i) (hw c ?_))
      rw [hc]
      by_cases g : f < i
      · rw [if_pos g, if_pos (show f < i + 1 by omega)]
      · rw [if_neg g, if_neg (show ¬ f < i + 1 by omega)]
end
end
section
/-! what differs; a file made to last -/
section
variable {ch cd nu sg : Int32} {a1 a2 a3 a4 a5 a6 a7 a8 a9 a10 a11 a12 a13 a14 : Nat → Int32}
theorem nt_dif {post : Int32 → Prop} {k m k' m' : Nat} (hk : k < 128) (hm : m < 128) (hk' : k' < 128) (hm' : m' < 128) (h3 : a3 k = 1) (h3' : a3 k' = 1) (h4 : a4 (k * 4) = nI m) (h4' : a4 (k' * 4) = nI m')
    (H : post (if a1 m = a1 m' then 0 else 1)) : wpX_differs post (ch, cd, nu, sg, a1, a2, a3, a4, a5, a6, a7, a8, a9, a10, a11, a12, a13, a14) (nI k) (nI k') := by
  refine br_f (nt_ne (by omega)) (br_f (nt_ne (by omega)) ⟨pk_in k 128 hk, pk_in k' 128 hk', ?_⟩)
  rw [nI_clamp (show k < 2 ^ 31 by omega), nI_clamp (show k' < 2 ^ 31 by omega)]
  refine br_t (by rw [h3, h3']) ⟨2, pk_in k 128 hk, ?_⟩
  rw [nI_clamp (show k < 2 ^ 31 by omega)]
  refine br_f (by rw [h3]; decide) ⟨pk_in (k * 4) 512 (by omega) (nt_ix0 k), ?_⟩
  rw [nt_ix0 k, nt_ix0 k', nI_clamp (show k * 4 < 2 ^ 31 by omega), nI_clamp (show k' * 4 < 2 ^ 31 by omega), h4, h4', nI_clamp (show m < 2 ^ 31 by omega), nI_clamp (show m' < 2 ^ 31 by omega)]
  refine ⟨pk_in m 128 hm, pk_in (k' * 4) 512 (by omega), pk_in m' 128 hm', br_c (fun e => nm_e ⟨pk_in k 128 hk, ?_⟩) (fun e => ?_)⟩
  · rw [nI_clamp (show k < 2 ^ 31 by omega)]
    rw [if_pos e] at H
    exact br_t (by rw [h3]; decide) H
  · rw [if_neg e] at H
    exact H
theorem nt_unsafe {post : Int32 → Prop} {f : Nat} {x y d : Int32} (hf : f < 6) (h1 : nt_one a11 f x) (h2 : nt_one a12 f y) (hd : d = 0 ∨ d = 1) (D : ∀ q : Int32 → Prop, q d → wpX_differs q (ch, cd, nu, sg, a1, a2, a3, a4, a5, a6, a7, a8, a9, a10, a11, a12, a13, a14) x y)
    (H : post d) : wpX_unsafe post (ch, cd, nu, sg, a1, a2, a3, a4, a5, a6, a7, a8, a9, a10, a11, a12, a13, a14) := by
  refine pk_loop (fun n i c => wX_unsafe_4 post ch cd nu sg a1 a2 a3 a4 a5 a6 a7 a8 a9 a10 a11 a12 a13 a14 n c (nI i)) (fun i c => c = if f < i then d else 0) 6 0 0 (by omega) (by rw [if_neg (by omega)]) ?_ ?_
  · intro n c hc
    rw [if_pos hf] at hc
    refine pk_le 6 6 (fun _ => ?_) (fun t => absurd t (by omega))
    rw [hc]
    exact H
  · intro n i c hi hc hw
    refine pk_le 6 i (fun t => absurd t (by omega)) (fun _ => ⟨pk_in i 6 hi, pk_in i 6 hi, ?_⟩)
    rw [nI_clamp (show i < 2 ^ 31 by omega)]
    by_cases e : i = f
    · rw [if_neg (by omega)] at hc
      subst e
      rw [h1.1, h2.1]
      refine D _ ?_
      rcases hd with rfl | rfl
      · refine br_t rfl (nm_r (nI_1 i) (hw c ?_))
        rw [if_pos (by omega)]
        exact hc
      · refine br_f (by decide) (nm_r (e' := 1) (by rw [hc]; rfl) (nm_r (nI_1 i) (hw 1 ?_)))
        rw [if_pos (by omega)]
    · rw [h1.2 i hi e, h2.2 i hi e]
      refine br_t rfl (br_t rfl (br_t rfl (nm_r (nI_1 i) (hw c ?_))))
      rw [hc]
      by_cases g : f < i
      · rw [if_pos g, if_pos (show f < i + 1 by omega)]
      · rw [if_neg g, if_neg (show ¬ f < i + 1 by omega)]
theorem nt_fs80 {post : Int32 → St2 → Prop} {f k c r : Nat} (hf : f < 6) (hk : k < 128) (hc : c < 128) (hkc : k ≠ c) (hr : r < 8)
    (hS : ∀ s, nt_fr c a4 s → s (c * 4) = a4 (k * 4) → nt_S f (nI c) nu a3 s a9 (upd a11 f (nI c)) (upd a12 f (nI c)) r)
    (H : ∀ s b, nt_fr c a4 s → s (c * 4) = a4 (k * 4) → post 0 (nI r, 1, nu, 0, a1, a2, a3, s, upd (upd a5 r (-1)) c nu, upd a6 c (nI r), a7, a8, a9, a10, upd a11 f (nI c), upd a12 f (nI c), a13, b)) :
    ∃ n, wX_fsync_80 post (nI f) (nI k) (nI c) (nI c) 0 nu 0 n 0 a1 a2 a3 a4 a5 a6 a7 a8 a9 a10 a11 a12 a13 a14 := by
  refine pk_loop (fun n i s => wX_fsync_80 post (nI f) (nI k) (nI c) (nI c) 0 nu 0 n (nI i) a1 a2 a3 s a5 a6 a7 a8 a9 a10 a11 a12 a13 a14) (fun i s => nt_fr c a4 s ∧ (0 < i → s (c * 4) = a4 (k * 4))) 4 0 a4 (by omega) ⟨fun j _ => rfl, fun h => absurd h (by omega)⟩ ?_ ?_
  · intro n s h
    refine pk_le 4 4 (fun _ => ⟨pk_in f 6 hf, nm_e ⟨pk_in f 6 hf, nm_e ?_⟩⟩) (fun t => absurd t (by omega))
    rw [nI_clamp (show f < 2 ^ 31 by omega)]
    refine nt_fresh (hS s h.1 (h.2 (by omega))) (fun b => ⟨pk_in c 128 hc, nm_e ⟨pk_in c 128 hc, nm_e (nm_r (e' := 1) (by decide) ?_)⟩⟩)
    rw [nI_clamp (show c < 2 ^ 31 by omega)]
    exact H s b h.1 (h.2 (by omega))
  · intro n i s hi h hw
    refine pk_le 4 i (fun t => absurd t (by omega)) (fun _ => ⟨pk_in (k * 4 + i) 512 (by omega) (nt_ix k i), pk_in (c * 4 + i) 512 (by omega) (nt_ix c i), nm_e (nm_r (nI_1 i) (hw _ ?_))⟩)
    rw [nt_ix k i, nt_ix c i, nI_clamp (show k * 4 + i < 2 ^ 31 by omega), nI_clamp (show c * 4 + i < 2 ^ 31 by omega)]
    refine ⟨nt_fr_u h.1 hi, fun _ => ?_⟩
    by_cases e : i = 0
    · subst e
      show upd s (c * 4) (s (k * 4)) (c * 4) = a4 (k * 4)
      rw [pk_us]
      exact h.1 (k * 4) (by omega)
    · rw [pk_un (by omega)]
      exact h.2 (by omega)
theorem nt_fsync {post : Int32 → St2 → Prop} {f k c r : Nat} (hf : f < 6) (hk : k < 128) (hc : c < 128) (hkc : k ≠ c) (hr : r < 8) (h11 : a11 f = nI k) (h13 : a13 f = 0)
    (hS : ∀ s, nt_fr c a4 s → s (c * 4) = a4 (k * 4) → nt_S f (nI c) nu (upd a3 c (a3 k)) s a9 (upd a11 f (nI c)) (upd a12 f (nI c)) r)
    (H : ∀ s b, nt_fr c a4 s → s (c * 4) = a4 (k * 4) → post 0 (nI r, 1, nu, 0, a1, upd a2 c (nI f), upd a3 c (a3 k), s, upd (upd a5 r (-1)) c nu, upd a6 c (nI r), a7, a8, a9, a10, upd a11 f (nI c), upd a12 f (nI c), a13, b)) :
    wpX_fsync post (nI c, 0, nu, 0, a1, a2, a3, a4, a5, a6, a7, a8, a9, a10, a11, a12, a13, a14) (nI f) := by
  unfold wpX_fsync
  refine nt_bad0 hf (br_t rfl ⟨pk_in f 6 hf, nm_r (e' := nI k) (by rw [nI_clamp (show f < 2 ^ 31 by omega), h11]) (br_f (nt_ne (by omega)) ⟨pk_in f 6 hf, ?_⟩)⟩)
  rw [nI_clamp (show f < 2 ^ 31 by omega)]
  refine br_t h13 (br_f (by decide) ⟨pk_in c 128 hc, nm_e ⟨pk_in k 128 hk, pk_in c 128 hc, nm_e ?_⟩⟩)
  rw [nI_clamp (show c < 2 ^ 31 by omega), nI_clamp (show k < 2 ^ 31 by omega)]
  exact nt_fs80 hf hk hc hkc hr hS H
theorem nt_fsync1 {post : Int32 → St2 → Prop} {x : Int32} (hx : x < 0 ∨ ¬ x < 6) (H : post (-1) (ch, cd, nu, sg, a1, a2, a3, a4, a5, a6, a7, a8, a9, a10, a11, a12, a13, a14)) : wpX_fsync post (ch, cd, nu, sg, a1, a2, a3, a4, a5, a6, a7, a8, a9, a10, a11, a12, a13, a14) x := by
  unfold wpX_fsync
  refine nt_bad1 hx ?_
  exact br_f (by decide) H
theorem nt_fsync3 {post : Int32 → St2 → Prop} {g : Nat} (hg : g < 6) (h : a11 g = -1) (H : post (-3) (ch, cd, nu, sg, a1, a2, a3, a4, a5, a6, a7, a8, a9, a10, a11, a12, a13, a14)) : wpX_fsync post (ch, cd, nu, sg, a1, a2, a3, a4, a5, a6, a7, a8, a9, a10, a11, a12, a13, a14) (nI g) := by
  unfold wpX_fsync
  refine nt_bad0 hg ?_
  exact br_t rfl ⟨pk_in g 6 hg, nm_r (e' := -1) (by rw [nI_clamp (show g < 2 ^ 31 by omega), h]) (br_t rfl H)⟩
end
end
section
/-! memory lost; looking -/
section
variable {ch cd nu sg : Int32} {a1 a2 a3 a4 a5 a6 a7 a8 a9 a10 a11 a12 a13 a14 : Nat → Int32}
theorem nt_m185 {post : St2 → Prop} (H : ∀ t, post (ch, cd, nu, sg, a1, a2, a3, a4, a5, a6, a7, a8, a9, a10, a11, t, a13, a14)) : ∃ n, wX_mount_185 post ch cd nu sg n 0 a1 a2 a3 a4 a5 a6 a7 a8 a9 a10 a11 a12 a13 a14 :=
  pk_loop (fun n i t => wX_mount_185 post ch cd nu sg n (nI i) a1 a2 a3 a4 a5 a6 a7 a8 a9 a10 a11 t a13 a14) (fun _ _ => True) 6 0 a12 (by omega) trivial
    (fun n t _ => pk_le 6 6 (fun _ => H t) (fun t => absurd t (by omega)))
    (fun n i t hi _ hw => pk_le 6 i (fun t => absurd t (by omega)) (fun _ => ⟨pk_in i 6 hi, pk_in i 6 hi, nm_e (nm_r (nI_1 i) (hw _ trivial))⟩))
theorem nt_m114a {post : St2 → Prop} {c : Nat} (hc : c < 128) (h5 : ¬ a5 c = nu) (H : ∀ h d t, post (h, d, nu, sg, a1, a2, a3, a4, a5, a6, a7, a8, a9, a10, a11, t, a13, a14)) : ∃ n, wX_mount_114 post nu sg n 0 (nI c) 0 a1 a2 a3 a4 a5 a6 a7 a8 a9 a10 a11 a12 a13 a14 := by
  refine ⟨1, br_f (by decide) ⟨pk_in c 128 hc, ?_⟩⟩
  rw [nI_clamp (show c < 2 ^ 31 by omega)]
  exact br_f h5 (nt_m185 (H _ _))
theorem nt_m114b {post : St2 → Prop} {c d f : Nat} (hc : c < 128) (hd : d < 128) (hf : f < 6) (h5 : a5 c = nu) (h2 : a2 c = nI f) (h6 : a6 c = nI d) (h5' : ¬ a5 d = nu) (H : ∀ h d t, post (h, d, nu, sg, a1, a2, a3, a4, a5, a6, a7, a8, a9, a10, upd a11 f (nI c), t, a13, a14)) : ∃ n, wX_mount_114 post nu sg n 0 (nI c) 0 a1 a2 a3 a4 a5 a6 a7 a8 a9 a10 a11 a12 a13 a14 := by
  refine ⟨2, br_f (by decide) ⟨pk_in c 128 hc, ?_⟩⟩
  rw [nI_clamp (show c < 2 ^ 31 by omega), h2, h6, nI_clamp (show f < 2 ^ 31 by omega)]
  refine br_t h5 ⟨pk_in c 128 hc, pk_in f 6 hf, nm_e ⟨pk_in c 128 hc, nm_e (nm_e (nm_e (br_f (by decide) ⟨pk_in d 128 hd, ?_⟩)))⟩⟩
  rw [nI_clamp (show d < 2 ^ 31 by omega)]
  exact br_f h5' (nt_m185 (H _ _))
/-- along the chain: x from the pack, or the one node that was chained -/
def nt_Q (f : Nat) (n x y : Int32) (a2 a5 a6 : Nat → Int32) : Prop := (¬ a5 0 = n ∧ y = x) ∨ (a5 0 = n ∧ a2 0 = nI f ∧ a6 0 = nI 3 ∧ ¬ a5 3 = n ∧ y = nI 0)
theorem nt_m61 {post : St2 → Prop} {f p : Nat} {x y : Int32} (hf : f < 6) (hp : p < 2) (h9 : nt_one (fun j => a9 (p * 6 + j)) f x) (h10 : a10 p = nI 0) (hq : nt_Q f nu x y a2 a5 a6)
    (H : ∀ h d u t z, nt_one u f y → post (h, d, nu, sg, a1, a2, a3, a4, a5, a6, a7, a8, a9, a10, u, t, z, a14)) : ∃ n, wX_mount_61 post (nI p) ch cd nu sg n 0 a1 a2 a3 a4 a5 a6 a7 a8 a9 a10 a11 a12 a13 a14 := by
  refine pk_loop (σ := (Nat → Int32) × (Nat → Int32)) (fun n i s => wX_mount_61 post (nI p) ch cd nu sg n (nI i) a1 a2 a3 a4 a5 a6 a7 a8 a9 a10 s.1 a12 s.2 a14) (fun i s => ∀ j, j < i → s.1 j = a9 (p * 6 + j)) 6 0 (a11, a13) (by omega) (fun j hj => absurd hj (by omega)) ?_ ?_
  · rintro n ⟨u, z⟩ hu
    have hu' : nt_one u f x := nt_one_eq hf h9 hu
    refine pk_le 6 6 (fun _ => ⟨pk_in p 2 hp, nm_r (e' := nI 0) (by rw [nI_clamp (show p < 2 ^ 31 by omega), h10]) ?_⟩) (fun t => absurd t (by omega))
    rcases hq with ⟨q1, rfl⟩ | ⟨q1, q2, q3, q4, rfl⟩
    · exact nt_m114a (by omega) q1 (fun h d t => H h d u t z hu')
    · exact nt_m114b (by omega) (by omega) hf q1 q2 q3 q4 (fun h d t => H h d _ t z ⟨pk_us, fun j hj hn => by rw [pk_un hn]; exact hu'.2 j hj hn⟩)
  · rintro n i ⟨u, z⟩ hi hu hw
    refine pk_le 6 i (fun t => absurd t (by omega)) (fun _ => ⟨pk_in (p * 6 + i) 12 (by omega) (nt_ix6 p i), pk_in i 6 hi, nm_e ⟨pk_in i 6 hi, nm_e (nm_r (nI_1 i) (hw (_, _) ?_))⟩⟩)
    rw [nt_ix6 p i, nI_clamp (show p * 6 + i < 2 ^ 31 by omega)]
    exact nt_fill (f := fun j => a9 (p * 6 + j)) (nI_clamp (by omega)) hu rfl
theorem nt_crash {post : Int32 → St2 → Prop} {f : Nat} {n x y : Int32} (hf : f < 6) (h71 : a7 1 = a8 1) (h70 : a7 0 = a8 0) (hle : a8 1 ≤ a8 0) (h8 : a8 0 = n) (h9 : nt_one (fun j => a9 (0 * 6 + j)) f x) (h10 : a10 0 = nI 0) (hq : nt_Q f n x y a2 a5 a6)
    (H : ∀ h d u t z, nt_one u f y → post (if y = -1 then 0 else 1) (h, d, n, sg, a1, a2, a3, a4, a5, a6, a7, a8, a9, a10, u, t, z, a14)) : wpX_crash post (ch, cd, nu, sg, a1, a2, a3, a4, a5, a6, a7, a8, a9, a10, a11, a12, a13, a14) := by
  refine br_t h71 (br_t h70 (br_t hle ⟨pk_in 0 2 (by omega), nm_r (e' := n) h8 ?_⟩))
  exact nt_m61 (p := 0) hf (by omega) h9 h10 hq (fun h d u t z hu => nt_count hf hu (H h d u t z hu))
theorem nt_read {post : Int32 → Prop} {f k m : Nat} (hf : f < 6) (hk : k < 128) (hm : m < 128) (h11 : a11 f = nI k) (h3 : a3 k = 1) (h4 : a4 (k * 4) = nI m) (H : post (a1 m)) : wpX_read post (ch, cd, nu, sg, a1, a2, a3, a4, a5, a6, a7, a8, a9, a10, a11, a12, a13, a14) (nI f) 0 := by
  unfold wpX_read
  refine nt_bad0 hf (br_t rfl ⟨pk_in f 6 hf, ?_⟩)
  rw [nI_clamp (show f < 2 ^ 31 by omega), h11, nI_clamp (show k < 2 ^ 31 by omega), h3, nt_ix0 k, nI_clamp (show k * 4 < 2 ^ 31 by omega), h4, nI_clamp (show m < 2 ^ 31 by omega)]
  exact br_f (nt_ne (by omega)) (br_f (by decide) ⟨pk_in f 6 hf, pk_in k 128 hk, br_t (by decide) ⟨pk_in f 6 hf, pk_in (k * 4) 512 (by omega), pk_in m 128 hm, H⟩⟩)
theorem nt_read1 {post : Int32 → Prop} {x : Int32} (hx : x < 0 ∨ ¬ x < 6) (H : post 0) : wpX_read post (ch, cd, nu, sg, a1, a2, a3, a4, a5, a6, a7, a8, a9, a10, a11, a12, a13, a14) x 0 := by
  unfold wpX_read
  refine nt_bad1 hx ?_
  exact br_f (by decide) H
def nt_dg (f : Nat) (v : Int32) : Int32 := (1000 * (nI f + 1)) * (1 + 1) + ((8 * nI f + 0) + 1) * v
theorem nt_digest {post : Int32 → Prop} {f : Nat} {x d : Int32} (hf : f < 6) (h : nt_one a11 f x) (hd : (x = -1 ∧ d = 0) ∨ ∃ k m, k < 128 ∧ m < 128 ∧ x = nI k ∧ a3 k = 1 ∧ a4 (k * 4) = nI m ∧ d = nt_dg f (a1 m)) (H : post d) : wpX_digest post (ch, cd, nu, sg, a1, a2, a3, a4, a5, a6, a7, a8, a9, a10, a11, a12, a13, a14) := by
  refine pk_loop (fun n i c => wX_digest_4 post ch cd nu sg a1 a2 a3 a4 a5 a6 a7 a8 a9 a10 a11 a12 a13 a14 n c (nI i)) (fun i c => c = if f < i then d else 0) 6 0 0 (by omega) (by rw [if_neg (by omega)]) ?_ ?_
  · intro n c hc
    rw [if_pos hf] at hc
    refine pk_le 6 6 (fun _ => ?_) (fun t => absurd t (by omega))
    rw [hc]
    exact H
  · intro n i c hi hc hw
    by_cases e : i = f
    · subst e
      rw [if_neg (by omega)] at hc
      refine pk_le 6 i (fun t => absurd t (by omega)) (fun _ => ⟨pk_in i 6 hi, nm_r (e' := x) (by rw [nI_clamp (show i < 2 ^ 31 by omega), h.1]) ?_⟩)
      rcases hd with ⟨rfl, rfl⟩ | ⟨k, m, hk, hm, rfl, h3, h4, rfl⟩
      · refine br_t rfl (nm_r (nI_1 i) (hw c ?_))
        rw [if_pos (by omega)]
        exact hc
      · refine br_f (nt_ne (by omega)) ⟨pk_in k 128 hk, nm_e ⟨2, pk_in k 128 hk, ?_⟩⟩
        rw [nI_clamp (show k < 2 ^ 31 by omega)]
        refine br_f (by rw [h3]; decide) ⟨pk_in (k * 4) 512 (by omega) (nt_ix0 k), ?_⟩
        rw [nt_ix0 k, nI_clamp (show k * 4 < 2 ^ 31 by omega), h4, nI_clamp (show m < 2 ^ 31 by omega), h3, hc]
        refine ⟨pk_in m 128 hm, nm_e (nm_e ⟨pk_in k 128 hk, ?_⟩)⟩
        rw [nI_clamp (show k < 2 ^ 31 by omega)]
        refine br_t (by rw [h3]; decide) (nm_r (nI_1 i) (hw _ ?_))
        rw [if_pos (by omega)]
        unfold nt_dg
        rw [Int32.zero_add]
    · refine pk_le 6 i (fun t => absurd t (by omega)) (fun _ => ⟨pk_in i 6 hi, nm_r (e' := -1) (by rw [nI_clamp (show i < 2 ^ 31 by omega), h.2 i hi e]) (br_t rfl (nm_r (nI_1 i) (hw c ?_)))⟩)
      rw [hc]
      by_cases g : f < i
      · rw [if_pos g, if_pos (show f < i + 1 by omega)]
      · rw [if_neg g, if_neg (show ¬ f < i + 1 by omega)]
end
end
section
/-! the law's last rows -/
section
variable {post : Int32 → St0 → Prop} {mc ms kc ks : Nat}
theorem nt_239 {x y : Int32} (h : x = y) (H : post 1 ()) : wL_lawOf_239 post mc ms y x kc ks := br_t h H
/-- from the third check on -/
theorem nt_165 {f g files us lasts left read digest inn kept due z : Int32} (h6 : us = z)
    (h7 : lasts = if g < 0 ∨ ¬ g ≤ 5 then -1 else if kept = 0 then -3 else 0) (h8 : left = files) (h9 : read = due)
    (h10 : digest = if inn = 0 then 0 else ((8 * f) + 1) * due + 2000 * (f + 1)) (H : post 1 ()) :
    wL_lawOf_165 post mc ms f g files lasts left read digest inn kept due z us kc ks := by
  have K : ∀ e, lasts = e → wL_lawOf_194 post mc ms f files left read digest inn due e lasts kc ks := by
    intro e he
    refine br_t he (br_t h8 (br_t h9 (br_c (fun q => ?_) (fun q => ?_))))
    · rw [if_pos q] at h10
      exact nt_239 h10 H
    · rw [if_neg q] at h10
      exact nt_239 h10 H
  refine br_t h6 (br_c (fun q => ?_) (fun q => br_c (fun q2 => ?_) (fun q2 => ?_)))
  · rw [if_pos (Or.inl q)] at h7
    exact K _ h7
  · rw [if_neg (fun t => t.elim q (fun t => t q2))] at h7
    refine br_c (fun q3 => ?_) (fun q3 => ?_)
    · rw [if_pos q3] at h7
      exact K _ h7
    · rw [if_neg q3] at h7
      exact K _ h7
  · rw [if_pos (Or.inr q2)] at h7
    exact K _ h7
/-- the file isn't one -/
theorem nt_out {f v w g files us lasts left read digest : Int32} (h5 : files = 0) (h6 : us = 0) (h7 : lasts = if g < 0 ∨ ¬ g ≤ 5 then -1 else -3) (h8 : left = 0) (h9 : read = 0) (h10 : digest = 0) (H : post 1 ()) :
    wL_lawOf_92 post mc ms f v w g files us lasts left read digest kc ks := by
  refine br_t rfl (br_t rfl (br_t rfl (br_t h5 (br_t rfl ?_))))
  exact nt_165 h6 h7 (h8.trans h5.symm) h9 h10 H
/-- the file is one -/
theorem nt_inn {f v w g files us lasts left read digest : Int32} (h5 : files = 1) (h6 : us = if v = w then 0 else 1) (h7 : lasts = if g < 0 ∨ ¬ g ≤ 5 then -1 else if g = f then 0 else -3) (h8 : left = 1)
    (h9 : read = if g = f then w else v) (h10 : digest = ((8 * f) + 1) * read + 2000 * (f + 1)) (H : post 1 ()) :
    wL_lawOf_93 post mc ms f v w g files us lasts left read digest 1 kc ks := by
  have M : ∀ kept due : Int32, (lasts = if g < 0 ∨ ¬ g ≤ 5 then -1 else if kept = 0 then -3 else 0) → read = due → wL_lawOf_131 post mc ms f v w g files us lasts left read digest 1 kept due kc ks := by
    intro kept due k7 k9
    have k10 : digest = if (1 : Int32) = 0 then 0 else ((8 * f) + 1) * due + 2000 * (f + 1) := by
      rw [if_neg (by decide), ← k9]
      exact h10
    refine br_f (by decide) (br_t h5 (br_f (by decide) (br_c (fun q => ?_) (fun q => ?_))))
    · rw [if_pos q] at h6
      exact nt_165 h6 k7 (h8.trans h5.symm) k9 k10 H
    · rw [if_neg q] at h6
      exact nt_165 h6 k7 (h8.trans h5.symm) k9 k10 H
  refine br_f (by decide) (br_c (fun q => ?_) (fun q => ?_))
  · rw [if_pos q] at h7 h9
    exact br_f (by decide) (br_f (by decide) (M 1 w (by rw [if_neg (show ¬ (1 : Int32) = 0 by decide)]; exact h7) h9))
  · rw [if_neg q] at h7 h9
    exact br_f (by decide) (br_t rfl (M 0 v (by rw [if_pos rfl]; exact h7) h9))
end
end
section
/-! the stages of the law -/
section
variable {ch cd nu sg : Int32} {a1 a2 a3 a4 a5 a6 a7 a8 a9 a10 a11 a12 a13 a14 : Nat → Int32}
theorem nt_one_m1 {a : Nat → Int32} {f : Nat} (h : nt_one a 0 (-1)) (hf : f < 6) : nt_one a f (-1) := by
  have A : ∀ j, j < 6 → a j = -1 := by
    intro j hj
    by_cases e : j = 0
    · rw [e]
      exact h.1
    · exact h.2 j hj e
  exact ⟨A f hf, fun j hj _ => A j hj⟩
theorem nt_one_u {a : Nat → Int32} {f : Nat} {x : Int32} (y : Int32) (h : nt_one a f x) : nt_one (upd a f y) f y :=
  ⟨pk_us, fun j hj hn => by rw [pk_un hn]; exact h.2 j hj hn⟩
theorem nt_le5 {x : Int32} : x ≤ 5 ↔ x < 6 := by
  rw [Int32.le_iff_toInt_le, Int32.lt_iff_toInt_lt, show (5 : Int32).toInt = 5 from by decide, show (6 : Int32).toInt = 6 from by decide]
  omega
theorem nt_gt5 {x : Int32} : 5 < x ↔ ¬ x < 6 := by
  rw [Int32.lt_iff_toInt_lt, Int32.lt_iff_toInt_lt, show (5 : Int32).toInt = 5 from by decide, show (6 : Int32).toInt = 6 from by decide]
  omega
theorem nt_dg_eq (f : Nat) (v : Int32) : nt_dg f v = ((8 * nI f) + 1) * v + 2000 * (nI f + 1) := by
  unfold nt_dg
  generalize nI f = x
  grind
theorem nt_file {x : Int32} (h : ¬ (x < 0 ∨ ¬ x ≤ 5)) : ∃ j : Nat, j < 6 ∧ x = nI j := by
  have h0 : ¬ x < 0 := fun t => h (Or.inl t)
  have h5 : x ≤ 5 := Classical.byContradiction (fun t => h (Or.inr t))
  obtain ⟨j, hj, e⟩ := nI_of2 (n := 5) (by decide) h0 h5
  exact ⟨j, by omega, e⟩
theorem nt_fsO {post : Int32 → St2 → Prop} {g : Int32} (hu : ∀ j, j < 6 → a11 j = -1) (H : post (if g < 0 ∨ ¬ g ≤ 5 then -1 else -3) (ch, cd, nu, sg, a1, a2, a3, a4, a5, a6, a7, a8, a9, a10, a11, a12, a13, a14)) : wpX_fsync post (ch, cd, nu, sg, a1, a2, a3, a4, a5, a6, a7, a8, a9, a10, a11, a12, a13, a14) g := by
  by_cases hg : g < 0 ∨ ¬ g ≤ 5
  · rw [if_pos hg] at H
    exact nt_fsync1 (hg.elim Or.inl (fun t => Or.inr (fun z => t (nt_le5.mpr z)))) H
  · rw [if_neg hg] at H
    obtain ⟨j, hj, rfl⟩ := nt_file hg
    exact nt_fsync3 hj (hu j hj) H
/-- where the file's node is, and its word, once memory is lost -/
def nt_L (f : Nat) (g : Int32) (z m : Nat) (a2 a3 a4 a5 a6 : Nat → Int32) : Prop :=
  nt_Q f 2 (nI 2) (nI z) a2 a5 a6 ∧ z < 128 ∧ a3 z = 1 ∧ a4 (z * 4) = nI m ∧ m = if g = nI f then 4 else 1
theorem nt_fsI {post : Int32 → St2 → Prop} {f : Nat} {g : Int32} (hf : f < 6) (h11 : nt_one a11 f (nI 3)) (h12 : nt_one a12 f (nI 2)) (h9 : nt_one (fun j => a9 (0 * 6 + j)) f (nI 2)) (h13 : a13 f = 0)
    (h33 : a3 3 = 1) (h32 : a3 2 = 1) (h43 : a4 (3 * 4) = nI 4) (h42 : a4 (2 * 4) = nI 1) (h5 : a5 0 = -1)
    (H : ∀ h d b2 b3 b4 b5 b6 b11 b12 b14 z m, nt_L f g z m b2 b3 b4 b5 b6 → post (if g < 0 ∨ ¬ g ≤ 5 then -1 else if g = nI f then 0 else -3) (h, d, 2, 0, a1, b2, b3, b4, b5, b6, a7, a8, a9, a10, b11, b12, a13, b14)) :
    wpX_fsync post (nI 0, 0, 2, 0, a1, a2, a3, a4, a5, a6, a7, a8, a9, a10, a11, a12, a13, a14) g := by
  have q0 : nt_Q f 2 (nI 2) (nI 2) a2 a5 a6 := Or.inl ⟨by rw [h5]; decide, rfl⟩
  by_cases hg : g < 0 ∨ ¬ g ≤ 5
  · rw [if_pos hg] at H
    have hn : ¬ g = nI f := by
      intro e
      subst e
      rcases hg with t | t
      · exact nI_pos (by omega) t
      · exact t (nt_le5.mpr (nI_lt (b := 6) hf (by decide)))
    exact nt_fsync1 (hg.elim Or.inl (fun t => Or.inr (fun z => t (nt_le5.mpr z)))) (H _ _ _ _ _ _ _ _ _ _ 2 1 ⟨q0, by omega, h32, h42, by rw [if_neg hn]⟩)
  · rw [if_neg hg] at H
    obtain ⟨j, hj, e⟩ := nt_file hg
    by_cases hn : g = nI f
    · rw [if_pos hn] at H
      subst hn
      refine nt_fsync (k := 3) (c := 0) (r := 3) hf (by omega) (by omega) (by omega) (by omega) h11.1 h13 (fun s hs hs0 => ?_) (fun s b hs hs0 => ?_)
      · have n0 : nt_nd (upd a3 0 (a3 3)) s (nI 0) [0, 4] := nt_nd_1 0 4 (by omega) (by omega) (by rw [pk_us]; exact h33) (by rw [hs0]; exact h43)
        have n2 : nt_nd (upd a3 0 (a3 3)) s (nI 2) [2, 1] := nt_nd_1 2 1 (by omega) (by omega) (by rw [pk_un (by omega)]; exact h32) (by rw [hs (2 * 4) (by omega)]; exact h42)
        exact ⟨0, nI 0, nI 0, nI 2, [0, 4], [0, 4], [2, 1], [0], by omega, by decide, nt_one_u _ h11, nt_one_u _ h12, h9, n0, n0, n2, Or.inr ⟨0, by omega, rfl, rfl⟩, hf, by omega, by decide, by decide⟩
      · exact H _ _ _ _ _ _ _ _ _ _ 0 4 ⟨Or.inr ⟨pk_us, pk_us, pk_us, by rw [pk_un (by omega), pk_us]; decide, rfl⟩, by omega, by rw [pk_us]; exact h33, by rw [hs0]; exact h43, by rw [if_pos rfl]⟩
    · rw [if_neg hn] at H
      have hjf : j ≠ f := fun t => hn (by rw [e, t])
      have hR := H (nI 0) 0 a2 a3 a4 a5 a6 a11 a12 a14 2 1 ⟨q0, by omega, h32, h42, by rw [if_neg hn]⟩
      subst e
      exact nt_fsync3 hj (h11.2 j hj hjf) hR
end
end
section
/-! the law -/
theorem nt_lawO {f v w g : Int32} (hx : f < 0 ∨ ¬ f < 6) : wpL_lawOf (fun r _ => r = 1) 15 1334 () f v w g := by
  refine ⟨by decide, by decide, 14, 1316, by decide, by decide, nt_init (fun m s t u y b hm hu hs ht hy => ?_)⟩
  refine nt_create1 hx (nt_write1 hx ?_)
  refine nt_chk (n := 2) (p := 0) (f := 0) (r := 0) (x := -1) (l := []) (by decide) (by decide) (by omega) (by omega) (by omega) hu nt_nd_n List.not_mem_nil (fun j hj => absurd hj (by omega)) (fun s t y b hs ht hy => ?_)
  refine nt_count (f := 0) (by omega) hu (nt_write1 hx ?_)
  refine nt_unsafe (d := 0) (f := 0) (by omega) hu ht (Or.inl rfl) (fun q hq => br_t rfl (br_t rfl hq)) ?_
  refine nt_fsO (fun j hj => (nt_one_m1 hu hj).1) ?_
  refine nt_crash (f := 0) (n := 2) (x := -1) (y := -1) (by omega) rfl rfl (by decide) rfl hs rfl (Or.inl ⟨by rw [pk_us]; decide, rfl⟩) (fun h d u' t' z' hu' => ?_)
  refine nt_read1 hx (nt_digest (f := 0) (d := 0) (by omega) hu' (Or.inl ⟨rfl, rfl⟩) ?_)
  refine br_c (fun _ => nt_out rfl rfl rfl rfl rfl rfl rfl) (fun h0 => br_t ?_ (nt_out rfl rfl rfl rfl rfl rfl rfl))
  exact nt_gt5.mpr (hx.elim (fun t => absurd t h0) id)
theorem nt_lawI {f : Nat} {v w g : Int32} (hf : f < 6) : wpL_lawOf (fun r _ => r = 1) 15 1334 () (nI f) v w g := by
  refine ⟨by decide, by decide, 14, 1316, by decide, by decide, nt_init (fun m s t u y b hm hu hs ht hy => ?_)⟩
  have hu := nt_one_m1 hu hf
  have hs := nt_one_m1 hs hf
  have ht := nt_one_m1 ht hf
  refine nt_create (r := 1) hf (by omega) hu.1 ⟨1, -1, -1, -1, [], [], [], [0], by omega, by decide, hu, ht, hs, nt_nd_n, nt_nd_n, nt_nd_n, Or.inr ⟨0, by omega, rfl, rfl⟩, hf, by omega, by decide, by decide⟩ (fun s4 b _ => ?_)
  have hu1 := nt_one_u (nI 1) hu
  refine nt_write (k := 1) (r := 2) (q := 1) hf (by omega) (by omega) (by omega) hu1.1 (Or.inl rfl) ?_ (fun s5 h5 => ?_) (fun s5 b h5 h5' => ?_)
  · exact ⟨1, nI 1, -1, -1, [1], [], [], [0], by omega, by decide, hu1, ht, hs, nt_nd_0 1 (by omega) rfl, nt_nd_n, nt_nd_n, Or.inr ⟨0, by omega, rfl, rfl⟩, hf, by omega, by decide, by decide⟩
  · exact ⟨1, nI 2, -1, -1, [2, 2], [], [], [0], by omega, by decide, nt_one_u (nI 2) hu1, ht, hs, nt_nd_1 2 2 (by omega) (by omega) rfl pk_us, nt_nd_n, nt_nd_n, Or.inr ⟨0, by omega, rfl, rfl⟩, hf, by omega, by decide, by decide⟩
  have hu2 := nt_one_u (nI 2) hu1
  refine nt_chk (n := 2) (p := 0) (f := f) (r := 0) (x := nI 2) (l := [2, 1]) (by decide) (by decide) (by omega) (by omega) hf hu2 (nt_nd_1 2 1 (by omega) (by omega) rfl h5') (by decide) (fun j hj => absurd hj (by omega)) (fun s t y b hs ht hy => ?_)
  refine nt_count hf hu2 ?_
  refine nt_write (k := 2) (r := 3) (q := 4) hf (by omega) (by omega) (by omega) hu2.1 (Or.inr rfl) ?_ (fun s6 h6 => ?_) (fun s6 b h6 h6' => ?_)
  · exact ⟨0, nI 2, nI 2, nI 2, [2, 1], [2, 1], [2, 1], [0], by omega, by decide, hu2, ht, hs, nt_nd_1 2 1 (by omega) (by omega) rfl h5', nt_nd_1 2 1 (by omega) (by omega) rfl h5', nt_nd_1 2 1 (by omega) (by omega) rfl h5', Or.inr ⟨0, by omega, rfl, rfl⟩, hf, by omega, by decide, by decide⟩
  · have e8 : upd s6 (3 * 4) (nI 3) (2 * 4) = nI 1 := by
      rw [pk_un (by omega), h6 (2 * 4) (by omega)]
      exact h5'
    exact ⟨0, nI 3, nI 2, nI 2, [3, 3], [2, 1], [2, 1], [0], by omega, by decide, nt_one_u (nI 3) hu2, ht, hs, nt_nd_1 3 3 (by omega) (by omega) rfl pk_us, nt_nd_1 2 1 (by omega) (by omega) rfl e8, nt_nd_1 2 1 (by omega) (by omega) rfl e8, Or.inr ⟨0, by omega, rfl, rfl⟩, hf, by omega, by decide, by decide⟩
  have hu3 := nt_one_u (nI 3) hu2
  have e8 : s6 (2 * 4) = nI 1 := by
    rw [h6 (2 * 4) (by omega)]
    exact h5'
  refine nt_unsafe (d := if w = v then 0 else 1) hf hu3 ht ?_ (fun q hq => nt_dif (m := 4) (m' := 1) (by omega) (by omega) (by omega) (by omega) rfl rfl h6' e8 hq) ?_
  · by_cases e : w = v
    · exact Or.inl (if_pos e)
    · exact Or.inr (if_neg e)
  refine nt_fsI hf hu3 ht hs (hy f hf) rfl rfl h6' e8 rfl (fun h d b2 b3 b4 b5 b6 b11 b12 b14 z m hL => ?_)
  obtain ⟨hQ, hz, hz3, hz4, hm'⟩ := hL
  refine nt_crash (f := f) (n := 2) (x := nI 2) (y := nI z) hf rfl rfl (by decide) rfl hs rfl hQ (fun h d u' t' z' hu' => ?_)
  have hm8 : m < 128 := by
    rw [hm']
    by_cases e : g = nI f
    · rw [if_pos e]
      omega
    · rw [if_neg e]
      omega
  have hv : upd (upd (fun _ => 0) 1 v) 4 w m = if g = nI f then w else v := by
    rw [hm']
    by_cases e : g = nI f
    · rw [if_pos e, if_pos e]
      rfl
    · rw [if_neg e, if_neg e]
      rfl
  refine nt_read hf hz hm8 hu'.1 hz3 hz4 (nt_digest hf hu' (Or.inr ⟨z, m, hz, hm8, rfl, hz3, hz4, rfl⟩) ?_)
  refine br_f (nI_pos (by omega)) (br_f (fun t => nt_gt5.mp t (nI_lt (b := 6) hf (by decide))) ?_)
  refine nt_inn (if_neg (nt_ne (by omega))) ?_ rfl (if_neg (nt_ne (by omega))) hv (nt_dg_eq f _) rfl
  by_cases e : w = v
  · rw [if_pos e, if_pos e.symm]
  · rw [if_neg e, if_neg (fun t => e t.symm)]
theorem nt_cell {post : Int32 → Prop} {L : Nat} {xs : Nat → Int32} (i : Nat) (hL : L ≤ 4) (hi : i < 4) (H : ∀ x, post x) : wpL_cellAt post L xs () (nI i) :=
  pk_le L i (fun _ => H _) (fun z => ⟨pk_in i L z, H _⟩)
theorem i_vc (xs : Nat → Int32) (L : Nat) (hL : L ≤ 4) : wpL_law (fun r => r = 1) L xs := by
  refine nt_cell 0 hL (by omega) (fun f => nt_cell 1 hL (by omega) (fun v => nt_cell 2 hL (by omega) (fun w => nt_cell 3 hL (by omega) (fun g => ⟨15, 1334, by decide, by decide, ?_⟩))))
  by_cases h : f < 0 ∨ ¬ f ≤ 5
  · exact nt_lawO (h.elim Or.inl (fun t => Or.inr (fun z => t (nt_le5.mpr z))))
  · obtain ⟨j, hj, rfl⟩ := nt_file h
    exact nt_lawI hj
end
