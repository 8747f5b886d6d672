section
/-! the constants of the graph that the law builds -/
def pf_Z : Nat → Int32 := fun _ => 0
def pf_fl (v : Int32) (i : Nat) : Nat → Int32 := fun j => if j < i then v else 0
def pf_M : Nat → Int32 := pf_fl (-1) 9
def pf_F : Nat → Int32 := upd (upd (upd pf_M 0 1) 1 2) 2 1
def pf_G : Nat → Int32 := upd (upd (upd pf_M 0 (-1)) 1 4) 2 (-1)
def pf_W : Nat → Int32 := upd (upd (upd (upd (upd (upd (upd (upd (upd pf_Z 8 1) 7 1) 6 1) 5 1) 4 1) 3 1) 2 1) 1 2) 0 2
def pf_B : Nat → Int32 := upd (upd (upd (upd (upd (upd (upd (upd (upd (upd (upd (upd (upd pf_Z 8 (-4)) 7 (-4)) 6 (-4)) 5 (-4)) 4 (-4)) 3 (-4)) 2 (-4)) 1 (-4)) 0 (-4)) 0 0) 1 0) 0 0) 1 2
theorem pf_cg {f g : Nat → Int32} {i j : Nat} {v w : Int32} (h : f = g) (hi : i = j) (hv : v = w) : upd f i v = upd g j w := by
  subst h hi hv
  rfl
theorem pf_fill (v : Int32) (i : Nat) : upd (pf_fl v i) i v = pf_fl v (i + 1) := by
  funext j
  show (if j = i then v else if j < i then v else 0) = if j < i + 1 then v else 0
  by_cases e : j = i
  · rw [if_pos e, if_pos (by omega)]
  · rw [if_neg e]
    by_cases g : j < i
    · rw [if_pos g, if_pos (by omega)]
    · rw [if_neg g, if_neg (by omega)]
theorem pf_fz (v : Int32) : pf_fl v 0 = pf_Z := by
  funext j
  show (if j < 0 then v else 0) = 0
  rw [if_neg (by omega)]
theorem pf_up0 {s : Nat → Int32} {i k : Nat} (hk : k = i) (h : ∀ j, j < i → s j = 0) : ∀ j, j < i + 1 → upd s k 0 j = 0 := by
  intro j hj
  rw [hk]
  by_cases e : j = i
  · rw [e, pk_us]
  · rw [pk_un e]
    exact h j (by omega)
/-! the constructor -/
theorem pf_init {post : St2 → Prop} {mc ms : Nat} (hc : 7 ≤ mc) (hs : 365 ≤ ms) (hp : post (0, 0, 0, 0, pf_M, pf_M, pf_Z, pf_Z, pf_Z, pf_Z, pf_Z)) : wpX_init post mc ms (0, 0, 0, 0) := by
  unfold wpX_init
  refine ⟨by omega, by omega, by omega, by omega, by omega, by omega, by omega, by omega, by omega, by omega, by omega, by omega, by omega, by omega, ?_⟩
  exact pk_loop (fun n i s => wX_init_64 post mc ms 7 365 0 0 0 0 n (nI i) s s pf_Z pf_Z pf_Z pf_Z pf_Z) (fun i s => s = pf_fl (-1) i) 9 0 pf_Z (by omega) (pf_fz _).symm
    (fun n s h => by
      subst h
      exact pk_le 9 9 (fun _ => hp) (fun z => absurd z (by omega)))
    (fun n i s hi h hw => by
      subst h
      have e : upd (pf_fl (-1) i) (nI i).toNatClampNeg (-1) = pf_fl (-1) (i + 1) := by rw [nI_clamp (by omega), pf_fill]
      exact pk_le 9 i (fun z => absurd z (by omega)) (fun _ => ⟨pk_in i 9 hi, nm_r e ⟨pk_in i 9 hi, nm_r e (nm_r (nI_1 i) (hw _ rfl))⟩⟩))
/-! lead: the clearing loop, then the six calls -/
theorem pf_105 {post : Int32 → St2 → Prop} {x4 p z : Int32} {a1 a2 a3 a4 a5 a6 a7 : Nat → Int32} (hp : ∀ c, (∀ j, j < 160 → c j = 0) → post x4 (0, p, 0, z, a1, a2, a3, a4, c, a6, a7)) : ∃ n, wX_lead_105 post x4 0 p 0 z n 0 a1 a2 a3 a4 a5 a6 a7 :=
  pk_loop (fun n i s => wX_lead_105 post x4 0 p 0 z n (nI i) a1 a2 a3 a4 s a6 a7) (fun i s => ∀ j, j < i → s j = 0) 160 0 a5 (by omega) (fun j hj => absurd hj (by omega))
    (fun n s h => pk_le 160 160 (fun _ => hp s h) (fun z => absurd z (by omega)))
    (fun n i s hi h hw => pk_le 160 i (fun z => absurd z (by omega)) (fun _ => ⟨pk_in i 160 hi, nm_e (nm_r (nI_1 i) (hw _ (pf_up0 (nI_clamp (by omega)) h)))⟩))
theorem pf_lead0 {post : Int32 → St2 → Prop} {q p o z : Int32} {a3 a4 a5 a6 a7 : Nat → Int32} (hp : ∀ c, (∀ j, j < 160 → c j = 0) → post 0 (0, p, 0, z, upd pf_M 0 1, upd pf_M 0 (-1), a3, a4, c, a6, a7)) : wpX_lead post (q, p, o, z, pf_M, pf_M, a3, a4, a5, a6, a7) 0 1 (-1) := by
  repeat (first | refine br_t (by decide +kernel) ?_ | refine br_f (by decide +kernel) ?_ | refine And.intro (vp_in_iff.mpr (by decide +kernel)) ?_ | refine nm_e ?_)
  exact pf_105 hp
theorem pf_lead1 {post : Int32 → St2 → Prop} {q p o z : Int32} {a3 a4 a5 a6 a7 : Nat → Int32} (hp : ∀ c, (∀ j, j < 160 → c j = 0) → post 0 (0, p, 0, z, upd (upd pf_M 0 1) 1 2, upd (upd pf_M 0 (-1)) 1 4, a3, a4, c, a6, a7)) : wpX_lead post (q, p, o, z, upd pf_M 0 1, upd pf_M 0 (-1), a3, a4, a5, a6, a7) 1 2 4 := by
  repeat (first | refine br_t (by decide +kernel) ?_ | refine br_f (by decide +kernel) ?_ | refine And.intro (vp_in_iff.mpr (by decide +kernel)) ?_ | refine nm_e ?_)
  exact pf_105 hp
theorem pf_lead2 {post : Int32 → St2 → Prop} {q p o z : Int32} {a3 a4 a5 a6 a7 : Nat → Int32} (hp : ∀ c, (∀ j, j < 160 → c j = 0) → post 0 (0, p, 0, z, pf_F, pf_G, a3, a4, c, a6, a7)) : wpX_lead post (q, p, o, z, upd (upd pf_M 0 1) 1 2, upd (upd pf_M 0 (-1)) 1 4, a3, a4, a5, a6, a7) 2 1 (-1) := by
  repeat (first | refine br_t (by decide +kernel) ?_ | refine br_f (by decide +kernel) ?_ | refine And.intro (vp_in_iff.mpr (by decide +kernel)) ?_ | refine nm_e ?_)
  exact pf_105 hp
theorem pf_lead3 {post : Int32 → St2 → Prop} {q p o z : Int32} {a3 a4 a5 a6 a7 : Nat → Int32} (hp : post 0 (q, p, o, z, pf_F, pf_G, a3, a4, a5, a6, a7)) : wpX_lead post (q, p, o, z, pf_F, pf_G, a3, a4, a5, a6, a7) 4 (-1) (-1) := by
  repeat (first | refine br_t (by decide +kernel) ?_ | refine br_f (by decide +kernel) ?_ | refine And.intro (vp_in_iff.mpr (by decide +kernel)) ?_ | refine nm_e ?_)
  exact hp
theorem pf_lead4 {post : Int32 → St2 → Prop} {q p o z : Int32} {a3 a4 a5 a6 a7 : Nat → Int32} (hp : post 2 (q, p, o, z, pf_F, pf_G, a3, a4, a5, a6, a7)) : wpX_lead post (q, p, o, z, pf_F, pf_G, a3, a4, a5, a6, a7) 1 2 4 := by
  repeat (first | refine br_t (by decide +kernel) ?_ | refine br_f (by decide +kernel) ?_ | refine And.intro (vp_in_iff.mpr (by decide +kernel)) ?_ | refine nm_e ?_)
  exact hp
theorem pf_lead5 {post : Int32 → St2 → Prop} {q p o z : Int32} {a3 a4 a5 a6 a7 : Nat → Int32} (hp : ∀ c, (∀ j, j < 160 → c j = 0) → post 2 (0, p, 0, z, upd pf_F 1 4, upd pf_G 1 2, a3, a4, c, a6, a7)) : wpX_lead post (q, p, o, z, pf_F, pf_G, a3, a4, a5, a6, a7) 1 4 2 := by
  repeat (first | refine br_t (by decide +kernel) ?_ | refine br_f (by decide +kernel) ?_ | refine And.intro (vp_in_iff.mpr (by decide +kernel)) ?_ | refine nm_e ?_)
  exact pf_105 hp
/-! number -/
theorem pf_num {post : St2 → Prop} {p o z : Int32} {a1 a2 a3 a4 a5 a6 a7 : Nat → Int32} (hp : post (1, p, o, z, a1, a2, a3, a4, a5, a6, a7)) : wpX_number post (1, p, o, z, a1, a2, a3, a4, a5, a6, a7) :=
  br_f (by decide) hp
theorem pf_num1 {post : St2 → Prop} {p o z : Int32} {c a6 a7 : Nat → Int32} (hp : post (1, 4, o, z, pf_F, pf_G, pf_W, pf_B, c, a6, a7)) : wpX_number post (0, p, o, z, pf_F, pf_G, pf_Z, pf_Z, c, a6, a7) := by
  have hq : ∀ q w b, q = 4 → w = pf_W → b = pf_B → post (1, q, o, z, pf_F, pf_G, w, b, c, a6, a7) := by
    intro q w b h1 h2 h3
    subst h1 h2 h3
    exact hp
  repeat (first | refine br_t (by decide +kernel) ?_ | refine br_f (by decide +kernel) ?_ | refine And.intro (vp_in_iff.mpr (by decide +kernel)) ?_ | refine nm_e ?_ | refine Exists.intro 10 ?_)
  refine hq _ _ _ (by decide +kernel) ?_ ?_
  · unfold pf_W
    repeat (refine pf_cg ?_ (by decide +kernel) (by decide +kernel))
    rfl
  · unfold pf_B
    repeat (refine pf_cg ?_ (by decide +kernel) (by decide +kernel))
    rfl
theorem pf_num2 {post : St2 → Prop} {p o z : Int32} {c a6 a7 : Nat → Int32} (hp : ∀ w b, post (1, 4, o, z, upd pf_F 1 4, upd pf_G 1 2, w, b, c, a6, a7)) : wpX_number post (0, p, o, z, upd pf_F 1 4, upd pf_G 1 2, pf_W, pf_B, c, a6, a7) := by
  have hq : ∀ q w b, q = 4 → post (1, q, o, z, upd pf_F 1 4, upd pf_G 1 2, w, b, c, a6, a7) := by
    intro q w b h1
    subst h1
    exact hp w b
  repeat (first | refine br_t (by decide +kernel) ?_ | refine br_f (by decide +kernel) ?_ | refine And.intro (vp_in_iff.mpr (by decide +kernel)) ?_ | refine nm_e ?_ | refine Exists.intro 10 ?_)
  exact hq _ _ _ (by decide +kernel)
end
section
/-! run: one turn from each block -/
theorem pf_F0 : pf_F (0 : Int32).toNatClampNeg = 1 := by decide +kernel
theorem pf_F1 : pf_F (1 : Int32).toNatClampNeg = 2 := by decide +kernel
theorem pf_F2 : pf_F (2 : Int32).toNatClampNeg = 1 := by decide +kernel
theorem pf_G1 : pf_G (1 : Int32).toNatClampNeg = 4 := by decide +kernel
theorem pf_even {r : Nat} (h : r < 2 ^ 30) : ¬ (nI (2 * r) &&& 1) = 1 := by
  rw [pk_andN (by omega) 1 (by decide), show 2 * r % 2 ^ 1 = 0 by omega]
  decide
theorem pf_half {r : Nat} (h : r < 2 ^ 30) : nI (2 * r) >>> ((1 : Int32) &&& 31) = nI r := by
  rw [pk_shrN (by omega) _ 1 (by decide), show 2 * r / 2 ^ 1 = r by omega]
/-- block 0: on to block 1 -/
theorem pf_s0 {post : Int32 → St2 → Prop} {o z l r : Int32} {n : Nat} {c a6 a7 : Nat → Int32}
    (h : wX_run_54 post 1 4 o z n 1 (nI 0) l r (nI 1) 1 (nI 1) pf_F pf_G pf_W pf_B c a6 a7) :
    wX_run_54 post 1 4 o z (n + 1) 0 0 l r 0 1 0 pf_F pf_G pf_W pf_B c a6 a7 := by
  have hq : ∀ b q a i, b = 1 → q = nI 0 → a = nI 1 → i = nI 1 → wX_run_54 post 1 4 o z n b q l r a 1 i pf_F pf_G pf_W pf_B c a6 a7 := by
    intro b q a i h1 h2 h3 h4
    subst h1 h2 h3 h4
    exact h
  repeat (first | refine br_t (by decide +kernel) ?_ | refine br_f (by decide +kernel) ?_ | refine And.intro (vp_in_iff.mpr (by decide +kernel)) ?_ | refine nm_e ?_)
  exact hq _ _ _ _ (by decide +kernel) (by decide +kernel) (by decide +kernel) (by decide +kernel)
/-- block 1 with a choice left, the bit 0: on to block 2 -/
theorem pf_s1 {post : Int32 → St2 → Prop} {o z x6 y6 : Int32} {n q a i l : Nat} {c a6 a7 : Nat → Int32} (hl : l < 100) (hi : i < 40)
    (hb : ¬ (x6 &&& 1) = 1) (hs : x6 >>> ((1 : Int32) &&& 31) = y6)
    (h : wX_run_54 post 1 4 o z n 2 (nI q) (nI l) y6 (nI (a + 1)) 1 (nI (i + 1)) pf_F pf_G pf_W pf_B c a6 a7) :
    wX_run_54 post 1 4 o z (n + 1) 1 (nI q) (nI (l + 1)) x6 (nI a) 1 (nI i) pf_F pf_G pf_W pf_B c a6 a7 := by
  refine pk_le 40 i (fun t => absurd t (by omega)) (fun _ => ?_)
  refine br_f (by decide) (And.intro (vp_in_iff.mpr (by decide +kernel)) (nm_r pf_F1 (And.intro (vp_in_iff.mpr (by decide +kernel)) (br_f (by decide +kernel) (br_f (nI_nle (by omega) (by omega)) ?_)))))
  refine br_f hb (And.intro (vp_in_iff.mpr (by decide +kernel)) ?_)
  rw [pf_F1]
  refine nm_r hs (nm_r (pk_m1 l) ?_)
  refine br_f (by decide) (nm_r (nI_1 a) ?_)
  repeat (first | refine br_t (by decide +kernel) ?_ | refine br_f (by decide +kernel) ?_ | refine And.intro (vp_in_iff.mpr (by decide +kernel)) ?_)
  refine nm_r (e' := nI q) (Int32.add_zero _) ?_
  exact And.intro (vp_in_iff.mpr (by decide +kernel)) (br_f (by decide +kernel) (nm_r (nI_1 i) h))
/-- block 2: the arc back to block 1 -/
theorem pf_s2 {post : Int32 → St2 → Prop} {o z l r : Int32} {n q a i : Nat} {c a6 a7 : Nat → Int32} (hq : q < 160) (hi : i < 40)
    (h : wX_run_54 post 1 4 o z n 1 (nI 2) l r (nI (a + 1)) 1 (nI (i + 1)) pf_F pf_G pf_W pf_B (upd c q (c q + 1)) a6 a7) :
    wX_run_54 post 1 4 o z (n + 1) 2 (nI q) l r (nI a) 1 (nI i) pf_F pf_G pf_W pf_B c a6 a7 := by
  refine pk_le 40 i (fun t => absurd t (by omega)) (fun _ => ?_)
  refine br_f (by decide) (And.intro (vp_in_iff.mpr (by decide +kernel)) (nm_r pf_F2 (And.intro (vp_in_iff.mpr (by decide +kernel)) (br_t (by decide +kernel) ?_))))
  refine br_f (by decide) (nm_r (nI_1 a) ?_)
  repeat (first | refine br_t (by decide +kernel) ?_ | refine br_f (by decide +kernel) ?_)
  refine And.intro (pk_in q 160 hq) (And.intro (pk_in q 160 hq) (nm_r (e' := upd c q (c q + 1)) (by rw [nI_clamp (by omega)]) (And.intro (vp_in_iff.mpr (by decide +kernel)) (nm_r (e' := nI 2) (by decide +kernel) ?_))))
  exact And.intro (vp_in_iff.mpr (by decide +kernel)) (br_f (by decide +kernel) (nm_r (nI_1 i) h))
/-- block 1 with a choice left, the bit 1: on to block 4, an end -/
theorem pf_e1 {post : Int32 → St2 → Prop} {o z : Int32} {n q a i l : Nat} {c a6 a7 : Nat → Int32} (hl : l < 100) (hi : i < 40) (hq : q + 1 < 160)
    (hp : post (nI (a + 1)) (1, 4, o, z, pf_F, pf_G, pf_W, pf_B, upd c (q + 1) (c (q + 1) + 1), a6, a7)) :
    wX_run_54 post 1 4 o z (n + 2) 1 (nI q) (nI (l + 1)) 1 (nI a) 1 (nI i) pf_F pf_G pf_W pf_B c a6 a7 := by
  have X : wX_run_212 post 4 (nI (q + 1)) (nI (a + 1)) 1 4 o z pf_F pf_G pf_W pf_B c a6 a7 := by
    refine And.intro (vp_in_iff.mpr (by decide +kernel)) (br_f (by decide +kernel) (And.intro (pk_in (q + 1) 160 hq) (And.intro (pk_in (q + 1) 160 hq) (nm_r (e' := upd c (q + 1) (c (q + 1) + 1)) (by rw [nI_clamp (by omega)]) hp))))
  have Y : ∀ l' r', wX_run_54 post 1 4 o z (n + 1) 4 (nI (q + 1)) l' r' (nI (a + 1)) 0 (nI (i + 1)) pf_F pf_G pf_W pf_B c a6 a7 := by
    intro l' r'
    exact pk_le 40 (i + 1) (fun _ => X) (fun _ => br_t rfl X)
  refine pk_le 40 i (fun t => absurd t (by omega)) (fun _ => ?_)
  refine br_f (by decide) (And.intro (vp_in_iff.mpr (by decide +kernel)) (nm_r pf_F1 (And.intro (vp_in_iff.mpr (by decide +kernel)) (br_f (by decide +kernel) (br_f (nI_nle (by omega) (by omega)) ?_)))))
  refine br_t (by decide +kernel) (And.intro (vp_in_iff.mpr (by decide +kernel)) ?_)
  rw [pf_G1]
  refine nm_e (nm_e ?_)
  refine br_f (by decide) (nm_r (nI_1 a) ?_)
  repeat (first | refine br_t (by decide +kernel) ?_ | refine br_f (by decide +kernel) ?_ | refine And.intro (vp_in_iff.mpr (by decide +kernel)) ?_)
  refine nm_r (e' := nI (q + 1)) ?_ ?_
  · rw [← nI_1]
    refine congrArg (fun t => nI q + t) ?_
    decide +kernel
  · exact And.intro (vp_in_iff.mpr (by decide +kernel)) (br_t (by decide +kernel) (nm_r (nI_1 i) (Y _ _)))
/-- block 1 with no choice left: the run stops, unfinished -/
theorem pf_e2 {post : Int32 → St2 → Prop} {o z : Int32} {n q a i : Nat} {c a6 a7 : Nat → Int32} (hi : i < 40)
    (hp : post (nI a) (1, 4, o + 1, z, pf_F, pf_G, pf_W, pf_B, c, a6, a7)) :
    wX_run_54 post 1 4 o z (n + 2) 1 (nI q) (nI 0) 0 (nI a) 1 (nI i) pf_F pf_G pf_W pf_B c a6 a7 := by
  have X : wX_run_212 post 1 (nI q) (nI a) 1 4 o z pf_F pf_G pf_W pf_B c a6 a7 := by
    exact And.intro (vp_in_iff.mpr (by decide +kernel)) (br_t (by decide +kernel) (nm_e hp))
  have Y : ∀ l' r', wX_run_54 post 1 4 o z (n + 1) 1 (nI q) l' r' (nI a) 0 (nI (i + 1)) pf_F pf_G pf_W pf_B c a6 a7 := by
    intro l' r'
    exact pk_le 40 (i + 1) (fun _ => X) (fun _ => br_t rfl X)
  refine pk_le 40 i (fun t => absurd t (by omega)) (fun _ => ?_)
  refine br_f (by decide) (And.intro (vp_in_iff.mpr (by decide +kernel)) (nm_r pf_F1 (And.intro (vp_in_iff.mpr (by decide +kernel)) (br_f (by decide +kernel) (br_t (by decide +kernel) ?_)))))
  refine br_f (by decide +kernel) (And.intro (vp_in_iff.mpr (by decide +kernel)) ?_)
  refine nm_e (nm_e ?_)
  exact br_t rfl (nm_r (nI_1 i) (Y _ _))
/-! run: what it leaves in the counts -/
def pf_fin : Nat → Nat → (Nat → Int32) → (Nat → Int32)
  | 0, q, c => upd c (q + 1) (c (q + 1) + 1)
  | t + 1, q, c => pf_fin t 2 (upd c q (c q + 1))
def pf_cy : Nat → Nat → (Nat → Int32) → (Nat → Int32)
  | 0, _, c => c
  | t + 1, q, c => pf_cy t 2 (upd c q (c q + 1))
theorem pf_r1 {post : Int32 → St2 → Prop} {o z : Int32} {a6 a7 : Nat → Int32} : ∀ (t q a i : Nat) (c : Nat → Int32), t ≤ 15 → q ≤ 100 → i + 2 * t < 39 →
    post (nI (a + 2 * t + 1)) (1, 4, o, z, pf_F, pf_G, pf_W, pf_B, pf_fin t q c, a6, a7) →
    wX_run_54 post 1 4 o z (2 * t + 2) 1 (nI q) (nI (t + 1)) (nI (2 ^ t)) (nI a) 1 (nI i) pf_F pf_G pf_W pf_B c a6 a7 := by
  intro t
  induction t with
  | zero =>
    intro q a i c ht hq hi hp
    exact pf_e1 (n := 0) (l := 0) (by omega) (by omega) (by omega) hp
  | succ t ih =>
    intro q a i c ht hq hi hp
    have hpw : 2 ^ t < 2 ^ 30 := Nat.pow_lt_pow_right (by decide) (by omega)
    rw [show 2 * (t + 1) + 2 = (2 * t + 2) + 1 + 1 by omega, show 2 ^ (t + 1) = 2 * 2 ^ t by rw [Nat.pow_succ, Nat.mul_comm]]
    refine pf_s1 (by omega) (by omega) (pf_even hpw) (pf_half hpw) (pf_s2 (by omega) (by omega) (ih 2 (a + 1 + 1) (i + 1 + 1) _ (by omega) (by omega) (by omega) ?_))
    rw [show a + 1 + 1 + 2 * t + 1 = a + 2 * (t + 1) + 1 by omega]
    exact hp
theorem pf_r2 {post : Int32 → St2 → Prop} {o z : Int32} {a6 a7 : Nat → Int32} : ∀ (t q a i : Nat) (c : Nat → Int32), t ≤ 15 → q ≤ 100 → i + 2 * t < 39 →
    post (nI (a + 2 * t)) (1, 4, o + 1, z, pf_F, pf_G, pf_W, pf_B, pf_cy t q c, a6, a7) →
    wX_run_54 post 1 4 o z (2 * t + 2) 1 (nI q) (nI t) 0 (nI a) 1 (nI i) pf_F pf_G pf_W pf_B c a6 a7 := by
  intro t
  induction t with
  | zero =>
    intro q a i c ht hq hi hp
    exact pf_e2 (n := 0) (by omega) hp
  | succ t ih =>
    intro q a i c ht hq hi hp
    rw [show 2 * (t + 1) + 2 = (2 * t + 2) + 1 + 1 by omega]
    refine pf_s1 (y6 := 0) (by omega) (by omega) (by decide) (by decide) (pf_s2 (by omega) (by omega) (ih 2 (a + 1 + 1) (i + 1 + 1) _ (by omega) (by omega) (by omega) ?_))
    rw [show a + 1 + 1 + 2 * t = a + 2 * (t + 1) by omega]
    exact hp
theorem pf_run1 {post : Int32 → St2 → Prop} {p o z : Int32} {n : Nat} {c a6 a7 : Nat → Int32} (hn : n < 16)
    (hp : post (nI (2 * n + 2)) (1, 4, o, z, pf_F, pf_G, pf_W, pf_B, pf_fin n 0 c, a6, a7)) :
    wpX_run post (0, p, o, z, pf_F, pf_G, pf_Z, pf_Z, c, a6, a7) (nI (2 ^ n)) (nI (n + 1)) := by
  refine pk_lt (n + 1) 0 (fun t => absurd t (by omega)) (fun _ => pk_le (n + 1) 24 (fun _ => ?_) (fun t => absurd t (by omega)))
  refine pf_num1 ?_
  refine nm_r (e' := 0) (by decide +kernel) (br_f (by decide +kernel) (Exists.intro _ (pf_s0 (pf_r1 n 0 1 1 c (by omega) (by omega) (by omega) ?_))))
  rw [show 1 + 2 * n + 1 = 2 * n + 2 by omega]
  exact hp
theorem pf_run2 {post : Int32 → St2 → Prop} {o z : Int32} {m : Nat} {c a6 a7 : Nat → Int32} (hm : m < 16)
    (hp : post (nI (2 * m + 1)) (1, 4, o + 1, z, pf_F, pf_G, pf_W, pf_B, pf_cy m 0 c, a6, a7)) :
    wpX_run post (1, 4, o, z, pf_F, pf_G, pf_W, pf_B, c, a6, a7) 0 (nI m) := by
  refine pk_lt m 0 (fun t => absurd t (by omega)) (fun _ => pk_le m 24 (fun _ => ?_) (fun t => absurd t (by omega)))
  refine pf_num ?_
  refine nm_r (e' := 0) (by decide +kernel) (br_f (by decide +kernel) (Exists.intro _ (pf_s0 (pf_r2 m 0 1 1 c (by omega) (by omega) (by omega) ?_))))
  rw [show 1 + 2 * m = 2 * m + 1 by omega]
  exact hp
end
section
/-! gone, possible, distinct, hottest -/
def pf_sum (c : Nat → Int32) : Nat → Int32
  | 0 => 0
  | k + 1 => pf_sum c k + c k
def pf_dis (c : Nat → Int32) : Nat → Int32
  | 0 => 0
  | k + 1 => if c k ≤ 0 then pf_dis c k else pf_dis c k + 1
theorem pf_gone8 {post : Int32 → St2 → Prop} {o z : Int32} {a1 a2 a3 a4 c a6 a7 : Nat → Int32} (hp : post (pf_sum c 4) (1, 4, o, z, a1, a2, a3, a4, c, a6, a7)) : ∃ n, wX_gone_8 post 1 4 o z a1 a2 a3 a4 c a6 a7 n 0 0 :=
  pk_loop (fun n i s => wX_gone_8 post 1 4 o z a1 a2 a3 a4 c a6 a7 n s (nI i)) (fun i s => s = pf_sum c i) 4 0 0 (by omega) rfl
    (fun n s h => by
      subst h
      exact pk_le 4 4 (fun _ => hp) (fun t => absurd t (by omega)))
    (fun n i s hi h hw => by
      subst h
      exact pk_le 4 i (fun t => absurd t (by omega)) (fun _ => ⟨pk_in i 160 (by omega), nm_r (e' := pf_sum c (i + 1)) (by rw [nI_clamp (by omega)]; rfl) (nm_r (nI_1 i) (hw _ rfl))⟩))
theorem pf_gone {post : Int32 → St2 → Prop} {o z : Int32} {a1 a2 a3 a4 c a6 a7 : Nat → Int32} (hp : post (pf_sum c 4) (1, 4, o, z, a1, a2, a3, a4, c, a6, a7)) : wpX_gone post (1, 4, o, z, a1, a2, a3, a4, c, a6, a7) := by
  unfold wpX_gone
  dsimp only
  refine pf_num ?_
  exact pf_gone8 hp
theorem pf_poss {post : Int32 → St2 → Prop} {o z : Int32} {a1 a2 a3 a4 c a6 a7 : Nat → Int32} (hp : post 4 (1, 4, o, z, a1, a2, a3, a4, c, a6, a7)) : wpX_possible post (1, 4, o, z, a1, a2, a3, a4, c, a6, a7) := by
  unfold wpX_possible
  dsimp only
  refine pf_num ?_
  exact hp
theorem pf_dist {post : Int32 → St2 → Prop} {o z : Int32} {a1 a2 a3 a4 c a6 a7 : Nat → Int32} (hp : post (pf_dis c 4) (1, 4, o, z, a1, a2, a3, a4, c, a6, a7)) : wpX_distinct post (1, 4, o, z, a1, a2, a3, a4, c, a6, a7) := by
  unfold wpX_distinct
  dsimp only
  refine pf_num ?_
  exact pk_loop (fun n i s => wX_distinct_8 post 1 4 o z a1 a2 a3 a4 c a6 a7 n s (nI i)) (fun i s => s = pf_dis c i) 4 0 0 (by omega) rfl
    (fun n s h => by
      subst h
      exact pk_le 4 4 (fun _ => hp) (fun t => absurd t (by omega)))
    (fun n i s hi h hw => by
      subst h
      have e1 : c i ≤ 0 → pf_dis c i = pf_dis c (i + 1) := fun g => (if_pos g).symm
      have e2 : ¬ c i ≤ 0 → pf_dis c i + 1 = pf_dis c (i + 1) := fun g => (if_neg g).symm
      refine pk_le 4 i (fun t => absurd t (by omega)) (fun _ => ⟨pk_in i 160 (by omega), ?_⟩)
      rw [nI_clamp (show i < 2 ^ 31 by omega)]
      exact br_c (fun g => nm_r (nI_1 i) (hw _ (e1 g))) (fun g => nm_r (e2 g) (nm_r (nI_1 i) (hw _ rfl))))
theorem pf_hot {post : Int32 → St2 → Prop} {o z : Int32} {a1 a2 a3 a4 c a6 a7 : Nat → Int32} (hc : ∀ k, k < 4 → c k = 0) (hp : post (-4) (1, 4, o, z, a1, a2, a3, a4, c, a6, a7)) : wpX_hottest post (1, 4, o, z, a1, a2, a3, a4, c, a6, a7) := by
  unfold wpX_hottest
  dsimp only
  refine pf_num ?_
  exact pk_loop (σ := Unit) (fun n i _ => wX_hottest_11 post n (-4) 0 (nI i) 1 4 o z a1 a2 a3 a4 c a6 a7) (fun _ _ => True) 4 0 () (by omega) trivial
    (fun n _ _ => pk_le 4 4 (fun _ => hp) (fun t => absurd t (by omega)))
    (fun n i _ hi _ hw => by
      have e : c (nI i).toNatClampNeg ≤ 0 := by
        rw [nI_clamp (by omega), hc i hi]
        decide
      exact pk_le 4 i (fun t => absurd t (by omega)) (fun _ => ⟨pk_in i 160 (by omega), br_t e (nm_r (nI_1 i) (hw () trivial))⟩))
/-! the lists of the four paths -/
def pf_s (k : Nat) : Nat := if k < 2 then 3 else 2
def pf_l : Nat → Nat → Int32
  | 0 => upd (upd (upd pf_Z 0 0) 1 1) 2 2
  | 1 => upd (upd (upd pf_Z 0 0) 1 1) 2 4
  | 2 => upd (upd pf_Z 0 1) 1 2
  | _ => upd (upd pf_Z 0 1) 1 4
theorem pf_s9 (k : Nat) : pf_s k ≤ 9 := by
  unfold pf_s
  split <;> omega
theorem pf_s1l (k : Nat) : 1 ≤ pf_s k := by
  unfold pf_s
  split <;> omega
theorem pf_sp0 {post : St2 → Prop} {o z : Int32} {c a6 a7 : Nat → Int32} (hp : ∀ a : Nat → Int32, a 0 = 0 → a 1 = 1 → a 2 = 2 → post (1, 4, o, 3, pf_F, pf_G, pf_W, pf_B, c, a, a7)) : wpX_spread post (1, 4, o, z, pf_F, pf_G, pf_W, pf_B, c, a6, a7) 0 := by
  have hq : ∀ (s : Int32) (a : Nat → Int32), s = 3 → a 0 = 0 → a 1 = 1 → a 2 = 2 → post (1, 4, o, s, pf_F, pf_G, pf_W, pf_B, c, a, a7) := by
    intro s a h
    subst h
    exact hp a
  repeat (first | refine br_t (by decide +kernel) ?_ | refine br_f (by decide +kernel) ?_ | refine And.intro (vp_in_iff.mpr (by decide +kernel)) ?_ | refine nm_e ?_ | refine Exists.intro 10 ?_)
  exact hq _ _ (by decide +kernel) rfl rfl rfl
theorem pf_sp1 {post : St2 → Prop} {o z : Int32} {c a6 a7 : Nat → Int32} (hp : ∀ a : Nat → Int32, a 0 = 0 → a 1 = 1 → a 2 = 4 → post (1, 4, o, 3, pf_F, pf_G, pf_W, pf_B, c, a, a7)) : wpX_spread post (1, 4, o, z, pf_F, pf_G, pf_W, pf_B, c, a6, a7) 1 := by
  have hq : ∀ (s : Int32) (a : Nat → Int32), s = 3 → a 0 = 0 → a 1 = 1 → a 2 = 4 → post (1, 4, o, s, pf_F, pf_G, pf_W, pf_B, c, a, a7) := by
    intro s a h
    subst h
    exact hp a
  repeat (first | refine br_t (by decide +kernel) ?_ | refine br_f (by decide +kernel) ?_ | refine And.intro (vp_in_iff.mpr (by decide +kernel)) ?_ | refine nm_e ?_ | refine Exists.intro 10 ?_)
  exact hq _ _ (by decide +kernel) rfl rfl rfl
theorem pf_sp2 {post : St2 → Prop} {o z : Int32} {c a6 a7 : Nat → Int32} (hp : ∀ a : Nat → Int32, a 0 = 1 → a 1 = 2 → post (1, 4, o, 2, pf_F, pf_G, pf_W, pf_B, c, a, a7)) : wpX_spread post (1, 4, o, z, pf_F, pf_G, pf_W, pf_B, c, a6, a7) 2 := by
  have hq : ∀ (s : Int32) (a : Nat → Int32), s = 2 → a 0 = 1 → a 1 = 2 → post (1, 4, o, s, pf_F, pf_G, pf_W, pf_B, c, a, a7) := by
    intro s a h
    subst h
    exact hp a
  repeat (first | refine br_t (by decide +kernel) ?_ | refine br_f (by decide +kernel) ?_ | refine And.intro (vp_in_iff.mpr (by decide +kernel)) ?_ | refine nm_e ?_ | refine Exists.intro 10 ?_)
  exact hq _ _ (by decide +kernel) rfl rfl
theorem pf_sp3 {post : St2 → Prop} {o z : Int32} {c a6 a7 : Nat → Int32} (hp : ∀ a : Nat → Int32, a 0 = 1 → a 1 = 4 → post (1, 4, o, 2, pf_F, pf_G, pf_W, pf_B, c, a, a7)) : wpX_spread post (1, 4, o, z, pf_F, pf_G, pf_W, pf_B, c, a6, a7) 3 := by
  have hq : ∀ (s : Int32) (a : Nat → Int32), s = 2 → a 0 = 1 → a 1 = 4 → post (1, 4, o, s, pf_F, pf_G, pf_W, pf_B, c, a, a7) := by
    intro s a h
    subst h
    exact hp a
  repeat (first | refine br_t (by decide +kernel) ?_ | refine br_f (by decide +kernel) ?_ | refine And.intro (vp_in_iff.mpr (by decide +kernel)) ?_ | refine nm_e ?_ | refine Exists.intro 10 ?_)
  exact hq _ _ (by decide +kernel) rfl rfl
theorem pf_sp {post : St2 → Prop} {o z : Int32} {c a6 a7 : Nat → Int32} {k : Nat} (hk : k < 4) (hp : ∀ a : Nat → Int32, (∀ j, j < pf_s k → a j = pf_l k j) → post (1, 4, o, nI (pf_s k), pf_F, pf_G, pf_W, pf_B, c, a, a7)) : wpX_spread post (1, 4, o, z, pf_F, pf_G, pf_W, pf_B, c, a6, a7) (nI k) := by
  match k, hk with
  | 0, _ => exact pf_sp0 (fun a h0 h1 h2 => hp a (fun j hj => co_3 (P := fun j => a j = pf_l 0 j) h0 h1 h2 hj))
  | 1, _ => exact pf_sp1 (fun a h0 h1 h2 => hp a (fun j hj => co_3 (P := fun j => a j = pf_l 1 j) h0 h1 h2 hj))
  | 2, _ => exact pf_sp2 (fun a h0 h1 => hp a (fun j hj => co_2 (P := fun j => a j = pf_l 2 j) h0 h1 hj))
  | 3, _ => exact pf_sp3 (fun a h0 h1 => hp a (fun j hj => co_2 (P := fun j => a j = pf_l 3 j) h0 h1 hj))
end
section
/-! inList, hasArc -/
def pf_mem (l : Nat → Int32) (b : Int32) : Nat → Int32
  | 0 => 0
  | i + 1 => if pf_mem l b i = 0 then (if l i = b then 1 else 0) else 1
def pf_har (l : Nat → Int32) (b d : Int32) : Nat → Int32
  | 0 => 0
  | 1 => 0
  | i + 2 => if pf_har l b d (i + 1) = 0 then (if l i = b then (if l (i + 1) = d then 1 else 0) else 0) else 1
theorem pf_mem01 (l : Nat → Int32) (b : Int32) : ∀ s, pf_mem l b s = 0 ∨ pf_mem l b s = 1
  | 0 => Or.inl rfl
  | s + 1 => by
    show (if pf_mem l b s = 0 then (if l s = b then (1 : Int32) else 0) else 1) = 0 ∨ (if pf_mem l b s = 0 then (if l s = b then (1 : Int32) else 0) else 1) = 1
    split
    · split
      · exact Or.inr rfl
      · exact Or.inl rfl
    · exact Or.inr rfl
theorem pf_har01 (l : Nat → Int32) (b d : Int32) : ∀ s, pf_har l b d s = 0 ∨ pf_har l b d s = 1
  | 0 => Or.inl rfl
  | 1 => Or.inl rfl
  | s + 2 => by
    show (if pf_har l b d (s + 1) = 0 then (if l s = b then (if l (s + 1) = d then (1 : Int32) else 0) else 0) else 1) = 0 ∨ (if pf_har l b d (s + 1) = 0 then (if l s = b then (if l (s + 1) = d then (1 : Int32) else 0) else 0) else 1) = 1
    split
    · split
      · split
        · exact Or.inr rfl
        · exact Or.inl rfl
      · exact Or.inl rfl
    · exact Or.inr rfl
theorem pf_nar {x : Int32} (h : x = 0 ∨ x = 1) : narrow .boolean (.int x) = .int x := by
  rcases h with h | h
  · rw [h]
    rfl
  · rw [h]
    rfl
theorem pf_memc {a l : Nat → Int32} {b : Int32} : ∀ {s : Nat}, (∀ j, j < s → a j = l j) → pf_mem a b s = pf_mem l b s := by
  intro s
  induction s with
  | zero => exact fun _ => rfl
  | succ s ih =>
    intro h
    show (if pf_mem a b s = 0 then (if a s = b then (1 : Int32) else 0) else 1) = if pf_mem l b s = 0 then (if l s = b then (1 : Int32) else 0) else 1
    rw [ih (fun j hj => h j (by omega)), h s (by omega)]
theorem pf_harc {a l : Nat → Int32} {b d : Int32} : ∀ {s : Nat}, (∀ j, j < s → a j = l j) → pf_har a b d s = pf_har l b d s := by
  intro s
  induction s with
  | zero => exact fun _ => rfl
  | succ s ih =>
    cases s with
    | zero => exact fun _ => rfl
    | succ s =>
      intro h
      show (if pf_har a b d (s + 1) = 0 then (if a s = b then (if a (s + 1) = d then (1 : Int32) else 0) else 0) else 1) = if pf_har l b d (s + 1) = 0 then (if l s = b then (if l (s + 1) = d then (1 : Int32) else 0) else 0) else 1
      rw [ih (fun j hj => h j (by omega)), h s (by omega), h (s + 1) (by omega)]
theorem pf_inl {post : Int32 → Prop} {q p o b : Int32} {a1 a2 a3 a4 a5 a6 a7 : Nat → Int32} {s : Nat} (hs : s ≤ 9) (hp : post (pf_mem a6 b s)) : wpX_inList post (q, p, o, nI s, a1, a2, a3, a4, a5, a6, a7) b :=
  pk_loop (fun n i x => wX_inList_4 post b q p o (nI s) a1 a2 a3 a4 a5 a6 a7 n x (nI i)) (fun i x => x = pf_mem a6 b i) s 0 0 (by omega) rfl
    (fun n x h => by
      subst h
      exact pk_le s s (fun _ => ⟨pf_nar (pf_mem01 _ _ _), hp⟩) (fun t => absurd t (by omega)))
    (fun n i x hi h hw => by
      subst h
      have h1 : pf_mem a6 b i = 0 → a6 i = b → 1 = pf_mem a6 b (i + 1) := fun e g => by
        show (1 : Int32) = if pf_mem a6 b i = 0 then (if a6 i = b then (1 : Int32) else 0) else 1
        rw [if_pos e, if_pos g]
      have h2 : pf_mem a6 b i = 0 → ¬ a6 i = b → 0 = pf_mem a6 b (i + 1) := fun e g => by
        show (0 : Int32) = if pf_mem a6 b i = 0 then (if a6 i = b then (1 : Int32) else 0) else 1
        rw [if_pos e, if_neg g]
      have h3 : ¬ pf_mem a6 b i = 0 → 1 = pf_mem a6 b (i + 1) := fun e => by
        show (1 : Int32) = if pf_mem a6 b i = 0 then (if a6 i = b then (1 : Int32) else 0) else 1
        rw [if_neg e]
      refine pk_le s i (fun t => absurd t (by omega)) (fun _ => br_c (fun e => And.intro (pk_in i 9 (by omega)) ?_) (fun e => nm_r (nI_1 i) (hw 1 (h3 e))))
      rw [nI_clamp (show i < 2 ^ 31 by omega)]
      exact br_c (fun g => nm_r (nI_1 i) (hw 1 (h1 e g))) (fun g => nm_r (nI_1 i) (hw 0 (h2 e g))))
theorem pf_hasArc {post : Int32 → Prop} {q p o b d : Int32} {a1 a2 a3 a4 a5 a6 a7 : Nat → Int32} {s : Nat} (hs1 : 1 ≤ s) (hs : s ≤ 9) (hp : post (pf_har a6 b d s)) : wpX_hasArc post (q, p, o, nI s, a1, a2, a3, a4, a5, a6, a7) b d :=
  pk_loop (fun n i x => wX_hasArc_5 post b d q p o (nI s) a1 a2 a3 a4 a5 a6 a7 n x (nI i)) (fun i x => 1 ≤ i ∧ x = pf_har a6 b d i) s 1 0 hs1 ⟨by omega, rfl⟩
    (fun n x h => by
      obtain ⟨_, h⟩ := h
      subst h
      exact pk_le s s (fun _ => ⟨pf_nar (pf_har01 _ _ _ _), hp⟩) (fun t => absurd t (by omega)))
    (fun n i x hi h hw => by
      obtain ⟨h0, h⟩ := h
      subst h
      obtain ⟨k, rfl⟩ : ∃ k, i = k + 1 := ⟨i - 1, by omega⟩
      have h1 : pf_har a6 b d (k + 1) = 0 → a6 k = b → a6 (k + 1) = d → 1 = pf_har a6 b d (k + 1 + 1) := fun e g g' => by
        show (1 : Int32) = if pf_har a6 b d (k + 1) = 0 then (if a6 k = b then (if a6 (k + 1) = d then (1 : Int32) else 0) else 0) else 1
        rw [if_pos e, if_pos g, if_pos g']
      have h2 : pf_har a6 b d (k + 1) = 0 → a6 k = b → ¬ a6 (k + 1) = d → 0 = pf_har a6 b d (k + 1 + 1) := fun e g g' => by
        show (0 : Int32) = if pf_har a6 b d (k + 1) = 0 then (if a6 k = b then (if a6 (k + 1) = d then (1 : Int32) else 0) else 0) else 1
        rw [if_pos e, if_pos g, if_neg g']
      have h3 : pf_har a6 b d (k + 1) = 0 → ¬ a6 k = b → 0 = pf_har a6 b d (k + 1 + 1) := fun e g => by
        show (0 : Int32) = if pf_har a6 b d (k + 1) = 0 then (if a6 k = b then (if a6 (k + 1) = d then (1 : Int32) else 0) else 0) else 1
        rw [if_pos e, if_neg g]
      have h4 : ¬ pf_har a6 b d (k + 1) = 0 → 1 = pf_har a6 b d (k + 1 + 1) := fun e => by
        show (1 : Int32) = if pf_har a6 b d (k + 1) = 0 then (if a6 k = b then (if a6 (k + 1) = d then (1 : Int32) else 0) else 0) else 1
        rw [if_neg e]
      refine pk_le s (k + 1) (fun t => absurd t (by omega)) (fun _ => br_c (fun e => And.intro (pk_in k 9 (by omega) (nI_pred k)) ?_) (fun e => nm_r (nI_1 (k + 1)) (hw 1 ⟨by omega, h4 e⟩)))
      rw [nI_pred, nI_clamp (show k < 2 ^ 31 by omega), nI_clamp (show k + 1 < 2 ^ 31 by omega)]
      exact br_c (fun g => And.intro (pk_in (k + 1) 9 (by omega)) (br_c (fun g' => nm_r (nI_1 (k + 1)) (hw 1 ⟨by omega, h1 e g g'⟩)) (fun g' => nm_r (nI_1 (k + 1)) (hw 0 ⟨by omega, h2 e g g'⟩)))) (fun g => nm_r (nI_1 (k + 1)) (hw 0 ⟨by omega, h3 e g⟩)))
/-! visits, through, arc, longest -/
def pf_vis (c : Nat → Int32) (b : Int32) : Nat → Int32
  | 0 => 0
  | k + 1 => if pf_mem (pf_l k) b (pf_s k) = 0 then pf_vis c b k else pf_vis c b k + c k
def pf_thr (b : Int32) : Nat → Int32
  | 0 => 0
  | k + 1 => if pf_mem (pf_l k) b (pf_s k) = 0 then pf_thr b k else pf_thr b k + 1
def pf_arc (c : Nat → Int32) (b d : Int32) : Nat → Int32
  | 0 => 0
  | k + 1 => if pf_har (pf_l k) b d (pf_s k) = 0 then pf_arc c b d k else pf_arc c b d k + c k
def pf_lon : Nat → Int32
  | 0 => 0
  | k + 1 => if nI (pf_s k) ≤ pf_lon k then pf_lon k else nI (pf_s k)
theorem pf_visits {post : Int32 → St2 → Prop} {o z b : Int32} {c a6 a7 : Nat → Int32} (hb : ¬ b < 0) (hb9 : b < 9) (hc : ∀ k, k < 4 → c k ≤ 0 → c k = 0) (hp : ∀ z a, post (pf_vis c b 4) (1, 4, o, z, pf_F, pf_G, pf_W, pf_B, c, a, a7)) : wpX_visits post (1, 4, o, z, pf_F, pf_G, pf_W, pf_B, c, a6, a7) b := by
  refine br_f hb (br_t hb9 (br_t rfl ?_))
  refine pf_num ?_
  exact pk_loop (fun n i (s : Int32 × Int32 × (Nat → Int32)) => wX_visits_18 post b n s.1 (nI i) 1 4 o s.2.1 pf_F pf_G pf_W pf_B c s.2.2 a7) (fun i s => s.1 = pf_vis c b i) 4 0 (0, z, a6) (by omega) rfl
    (fun n s h => by
      obtain ⟨x, z', a⟩ := s
      have h' : x = pf_vis c b 4 := h
      subst h'
      exact pk_le 4 4 (fun _ => hp z' a) (fun t => absurd t (by omega)))
    (fun n i s hi h hw => by
      obtain ⟨x, z', a⟩ := s
      have h' : x = pf_vis c b i := h
      subst h'
      have hw' : ∀ x z' a, x = pf_vis c b (i + 1) → wX_visits_18 post b n x (nI (i + 1)) 1 4 o z' pf_F pf_G pf_W pf_B c a a7 := fun x z' a e => hw (x, z', a) e
      have e1 : pf_mem (pf_l i) b (pf_s i) = 0 → pf_vis c b i = pf_vis c b (i + 1) := fun g => (if_pos g).symm
      have e2 : ¬ pf_mem (pf_l i) b (pf_s i) = 0 → pf_vis c b i + c i = pf_vis c b (i + 1) := fun g => (if_neg g).symm
      show wX_visits_18 post b (n + 1) (pf_vis c b i) (nI i) 1 4 o z' pf_F pf_G pf_W pf_B c a a7
      refine pk_le 4 i (fun t => absurd t (by omega)) (fun _ => And.intro (pk_in i 160 (by omega)) ?_)
      rw [nI_clamp (show i < 2 ^ 31 by omega)]
      refine br_c (fun e => nm_r (nI_1 i) (hw' _ _ _ ?_)) (fun e => ?_)
      · by_cases g : pf_mem (pf_l i) b (pf_s i) = 0
        · exact e1 g
        · rw [← e2 g, hc i hi e, Int32.add_zero]
      · refine pf_sp hi (fun a' ha' => ?_)
        refine pf_inl (pf_s9 i) ?_
        rw [pf_memc ha']
        exact br_c (fun g => nm_r (nI_1 i) (hw' _ _ _ (e1 g))) (fun g => And.intro (pk_in i 160 (by omega)) (nm_r (e2 g) (nm_r (nI_1 i) (hw' _ _ _ rfl)))))
theorem pf_through {post : Int32 → St2 → Prop} {o z b : Int32} {c a6 a7 : Nat → Int32} (hb : ¬ b < 0) (hb9 : b < 9) (hp : ∀ z a, post (pf_thr b 4) (1, 4, o, z, pf_F, pf_G, pf_W, pf_B, c, a, a7)) : wpX_through post (1, 4, o, z, pf_F, pf_G, pf_W, pf_B, c, a6, a7) b := by
  refine br_f hb (br_t hb9 (br_t rfl ?_))
  refine pf_num ?_
  exact pk_loop (fun n i (s : Int32 × Int32 × (Nat → Int32)) => wX_through_18 post b n s.1 (nI i) 1 4 o s.2.1 pf_F pf_G pf_W pf_B c s.2.2 a7) (fun i s => s.1 = pf_thr b i) 4 0 (0, z, a6) (by omega) rfl
    (fun n s h => by
      obtain ⟨x, z', a⟩ := s
      have h' : x = pf_thr b 4 := h
      subst h'
      exact pk_le 4 4 (fun _ => hp z' a) (fun t => absurd t (by omega)))
    (fun n i s hi h hw => by
      obtain ⟨x, z', a⟩ := s
      have h' : x = pf_thr b i := h
      subst h'
      have hw' : ∀ x z' a, x = pf_thr b (i + 1) → wX_through_18 post b n x (nI (i + 1)) 1 4 o z' pf_F pf_G pf_W pf_B c a a7 := fun x z' a e => hw (x, z', a) e
      have e1 : pf_mem (pf_l i) b (pf_s i) = 0 → pf_thr b i = pf_thr b (i + 1) := fun g => (if_pos g).symm
      have e2 : ¬ pf_mem (pf_l i) b (pf_s i) = 0 → pf_thr b i + 1 = pf_thr b (i + 1) := fun g => (if_neg g).symm
      show wX_through_18 post b (n + 1) (pf_thr b i) (nI i) 1 4 o z' pf_F pf_G pf_W pf_B c a a7
      refine pk_le 4 i (fun t => absurd t (by omega)) (fun _ => ?_)
      refine pf_sp hi (fun a' ha' => ?_)
      refine pf_inl (pf_s9 i) ?_
      rw [pf_memc ha']
      exact br_c (fun g => nm_r (nI_1 i) (hw' _ _ _ (e1 g))) (fun g => nm_r (e2 g) (nm_r (nI_1 i) (hw' _ _ _ rfl))))
theorem pf_arcs {post : Int32 → St2 → Prop} {o z b d : Int32} {c a6 a7 : Nat → Int32} (hc : ∀ k, k < 4 → c k ≤ 0 → c k = 0) (hp : ∀ z a, post (pf_arc c b d 4) (1, 4, o, z, pf_F, pf_G, pf_W, pf_B, c, a, a7)) : wpX_arc post (1, 4, o, z, pf_F, pf_G, pf_W, pf_B, c, a6, a7) b d := by
  unfold wpX_arc
  dsimp only
  refine pf_num ?_
  exact pk_loop (fun n i (s : Int32 × Int32 × (Nat → Int32)) => wX_arc_9 post b d n s.1 (nI i) 1 4 o s.2.1 pf_F pf_G pf_W pf_B c s.2.2 a7) (fun i s => s.1 = pf_arc c b d i) 4 0 (0, z, a6) (by omega) rfl
    (fun n s h => by
      obtain ⟨x, z', a⟩ := s
      have h' : x = pf_arc c b d 4 := h
      subst h'
      exact pk_le 4 4 (fun _ => hp z' a) (fun t => absurd t (by omega)))
    (fun n i s hi h hw => by
      obtain ⟨x, z', a⟩ := s
      have h' : x = pf_arc c b d i := h
      subst h'
      have hw' : ∀ x z' a, x = pf_arc c b d (i + 1) → wX_arc_9 post b d n x (nI (i + 1)) 1 4 o z' pf_F pf_G pf_W pf_B c a a7 := fun x z' a e => hw (x, z', a) e
      have e1 : pf_har (pf_l i) b d (pf_s i) = 0 → pf_arc c b d i = pf_arc c b d (i + 1) := fun g => (if_pos g).symm
      have e2 : ¬ pf_har (pf_l i) b d (pf_s i) = 0 → pf_arc c b d i + c i = pf_arc c b d (i + 1) := fun g => (if_neg g).symm
      show wX_arc_9 post b d (n + 1) (pf_arc c b d i) (nI i) 1 4 o z' pf_F pf_G pf_W pf_B c a a7
      refine pk_le 4 i (fun t => absurd t (by omega)) (fun _ => And.intro (pk_in i 160 (by omega)) ?_)
      rw [nI_clamp (show i < 2 ^ 31 by omega)]
      refine br_c (fun e => nm_r (nI_1 i) (hw' _ _ _ ?_)) (fun e => ?_)
      · by_cases g : pf_har (pf_l i) b d (pf_s i) = 0
        · exact e1 g
        · rw [← e2 g, hc i hi e, Int32.add_zero]
      · refine pf_sp hi (fun a' ha' => ?_)
        refine pf_hasArc (pf_s1l i) (pf_s9 i) ?_
        rw [pf_harc ha']
        exact br_c (fun g => nm_r (nI_1 i) (hw' _ _ _ (e1 g))) (fun g => And.intro (pk_in i 160 (by omega)) (nm_r (e2 g) (nm_r (nI_1 i) (hw' _ _ _ rfl)))))
theorem pf_longest {post : Int32 → St2 → Prop} {o z : Int32} {c a6 a7 : Nat → Int32} (hp : ∀ z a, post 3 (1, 4, o, z, pf_F, pf_G, pf_W, pf_B, c, a, a7)) : wpX_longest post (1, 4, o, z, pf_F, pf_G, pf_W, pf_B, c, a6, a7) := by
  have h3 : pf_lon 4 = 3 := by decide +kernel
  unfold wpX_longest
  dsimp only
  refine pf_num ?_
  exact pk_loop (fun n i (s : Int32 × Int32 × (Nat → Int32)) => wX_longest_8 post n s.1 (nI i) 1 4 o s.2.1 pf_F pf_G pf_W pf_B c s.2.2 a7) (fun i s => s.1 = pf_lon i) 4 0 (0, z, a6) (by omega) rfl
    (fun n s h => by
      obtain ⟨x, z', a⟩ := s
      have h' : x = pf_lon 4 := h
      rw [h3] at h'
      subst h'
      exact pk_le 4 4 (fun _ => hp z' a) (fun t => absurd t (by omega)))
    (fun n i s hi h hw => by
      obtain ⟨x, z', a⟩ := s
      have h' : x = pf_lon i := h
      subst h'
      have hw' : ∀ x z' a, x = pf_lon (i + 1) → wX_longest_8 post n x (nI (i + 1)) 1 4 o z' pf_F pf_G pf_W pf_B c a a7 := fun x z' a e => hw (x, z', a) e
      have e1 : nI (pf_s i) ≤ pf_lon i → pf_lon i = pf_lon (i + 1) := fun g => (if_pos g).symm
      have e2 : ¬ nI (pf_s i) ≤ pf_lon i → nI (pf_s i) = pf_lon (i + 1) := fun g => (if_neg g).symm
      show wX_longest_8 post (n + 1) (pf_lon i) (nI i) 1 4 o z' pf_F pf_G pf_W pf_B c a a7
      refine pk_le 4 i (fun t => absurd t (by omega)) (fun _ => ?_)
      refine pf_sp hi (fun a' ha' => ?_)
      exact br_c (fun g => nm_r (nI_1 i) (hw' _ _ _ (e1 g))) (fun g => nm_r (nI_1 i) (hw' _ _ _ (e2 g))))
/-! times: the five codes -/
theorem pf_t123 {post : Int32 → St2 → Prop} {o z : Int32} {c a6 a7 : Nat → Int32} (hp : post (c 0) (1, 4, o, z, pf_F, pf_G, pf_W, pf_B, c, a6, a7)) : wpX_times post (1, 4, o, z, pf_F, pf_G, pf_W, pf_B, c, a6, a7) 123 := by
  have hq : ∀ j, j = 0 → post (c j) (1, 4, o, z, pf_F, pf_G, pf_W, pf_B, c, a6, a7) := by
    intro j h
    subst h
    exact hp
  unfold wpX_times
  dsimp only
  refine pf_num ?_
  dsimp only
  repeat (first | refine br_t (by decide +kernel) ?_ | refine br_f (by decide +kernel) ?_ | refine And.intro (vp_in_iff.mpr (by decide +kernel)) ?_ | refine nm_e ?_ | refine Exists.intro 10 ?_ | refine And.intro (by decide +kernel) ?_)
  exact hq _ (by decide +kernel)
theorem pf_t125 {post : Int32 → St2 → Prop} {o z : Int32} {c a6 a7 : Nat → Int32} (hp : post (c 1) (1, 4, o, z, pf_F, pf_G, pf_W, pf_B, c, a6, a7)) : wpX_times post (1, 4, o, z, pf_F, pf_G, pf_W, pf_B, c, a6, a7) 125 := by
  have hq : ∀ j, j = 1 → post (c j) (1, 4, o, z, pf_F, pf_G, pf_W, pf_B, c, a6, a7) := by
    intro j h
    subst h
    exact hp
  unfold wpX_times
  dsimp only
  refine pf_num ?_
  dsimp only
  repeat (first | refine br_t (by decide +kernel) ?_ | refine br_f (by decide +kernel) ?_ | refine And.intro (vp_in_iff.mpr (by decide +kernel)) ?_ | refine nm_e ?_ | refine Exists.intro 10 ?_ | refine And.intro (by decide +kernel) ?_)
  exact hq _ (by decide +kernel)
theorem pf_t23 {post : Int32 → St2 → Prop} {o z : Int32} {c a6 a7 : Nat → Int32} (hp : post (c 2) (1, 4, o, z, pf_F, pf_G, pf_W, pf_B, c, a6, a7)) : wpX_times post (1, 4, o, z, pf_F, pf_G, pf_W, pf_B, c, a6, a7) 23 := by
  have hq : ∀ j, j = 2 → post (c j) (1, 4, o, z, pf_F, pf_G, pf_W, pf_B, c, a6, a7) := by
    intro j h
    subst h
    exact hp
  unfold wpX_times
  dsimp only
  refine pf_num ?_
  dsimp only
  repeat (first | refine br_t (by decide +kernel) ?_ | refine br_f (by decide +kernel) ?_ | refine And.intro (vp_in_iff.mpr (by decide +kernel)) ?_ | refine nm_e ?_ | refine Exists.intro 10 ?_ | refine And.intro (by decide +kernel) ?_)
  exact hq _ (by decide +kernel)
theorem pf_t25 {post : Int32 → St2 → Prop} {o z : Int32} {c a6 a7 : Nat → Int32} (hp : post (c 3) (1, 4, o, z, pf_F, pf_G, pf_W, pf_B, c, a6, a7)) : wpX_times post (1, 4, o, z, pf_F, pf_G, pf_W, pf_B, c, a6, a7) 25 := by
  have hq : ∀ j, j = 3 → post (c j) (1, 4, o, z, pf_F, pf_G, pf_W, pf_B, c, a6, a7) := by
    intro j h
    subst h
    exact hp
  unfold wpX_times
  dsimp only
  refine pf_num ?_
  dsimp only
  repeat (first | refine br_t (by decide +kernel) ?_ | refine br_f (by decide +kernel) ?_ | refine And.intro (vp_in_iff.mpr (by decide +kernel)) ?_ | refine nm_e ?_ | refine Exists.intro 10 ?_ | refine And.intro (by decide +kernel) ?_)
  exact hq _ (by decide +kernel)
theorem pf_t12 {post : Int32 → St2 → Prop} {o z : Int32} {c a6 a7 : Nat → Int32} (hp : post (-4) (1, 4, o, z, pf_F, pf_G, pf_W, pf_B, c, a6, a7)) : wpX_times post (1, 4, o, z, pf_F, pf_G, pf_W, pf_B, c, a6, a7) 12 := by
  unfold wpX_times
  dsimp only
  refine pf_num ?_
  dsimp only
  repeat (first | refine br_t (by decide +kernel) ?_ | refine br_f (by decide +kernel) ?_ | refine And.intro (vp_in_iff.mpr (by decide +kernel)) ?_ | refine nm_e ?_ | refine Exists.intro 10 ?_ | refine And.intro (by decide +kernel) ?_)
  exact hp
end
section
/-! spread's second print (under path): the rows of part 03 again -/
theorem pf_sq0 {post : St2 → Prop} {o z : Int32} {c a6 a7 : Nat → Int32} (hp : ∀ a : Nat → Int32, a 0 = 0 → a 1 = 1 → a 2 = 2 → post (1, 4, o, 3, pf_F, pf_G, pf_W, pf_B, c, a, a7)) : wpX_spread_2 post (1, 4, o, z, pf_F, pf_G, pf_W, pf_B, c, a6, a7) 0 := by
  have hq : ∀ (s : Int32) (a : Nat → Int32), s = 3 → a 0 = 0 → a 1 = 1 → a 2 = 2 → post (1, 4, o, s, pf_F, pf_G, pf_W, pf_B, c, a, a7) := by
    intro s a h
    subst h
    exact hp a
  repeat (first | refine br_t (by decide +kernel) ?_ | refine br_f (by decide +kernel) ?_ | refine And.intro (vp_in_iff.mpr (by decide +kernel)) ?_ | refine nm_e ?_ | refine Exists.intro 10 ?_)
  exact hq _ _ (by decide +kernel) rfl rfl rfl
theorem pf_sq1 {post : St2 → Prop} {o z : Int32} {c a6 a7 : Nat → Int32} (hp : ∀ a : Nat → Int32, a 0 = 0 → a 1 = 1 → a 2 = 4 → post (1, 4, o, 3, pf_F, pf_G, pf_W, pf_B, c, a, a7)) : wpX_spread_2 post (1, 4, o, z, pf_F, pf_G, pf_W, pf_B, c, a6, a7) 1 := by
  have hq : ∀ (s : Int32) (a : Nat → Int32), s = 3 → a 0 = 0 → a 1 = 1 → a 2 = 4 → post (1, 4, o, s, pf_F, pf_G, pf_W, pf_B, c, a, a7) := by
    intro s a h
    subst h
    exact hp a
  repeat (first | refine br_t (by decide +kernel) ?_ | refine br_f (by decide +kernel) ?_ | refine And.intro (vp_in_iff.mpr (by decide +kernel)) ?_ | refine nm_e ?_ | refine Exists.intro 10 ?_)
  exact hq _ _ (by decide +kernel) rfl rfl rfl
theorem pf_sq2 {post : St2 → Prop} {o z : Int32} {c a6 a7 : Nat → Int32} (hp : ∀ a : Nat → Int32, a 0 = 1 → a 1 = 2 → post (1, 4, o, 2, pf_F, pf_G, pf_W, pf_B, c, a, a7)) : wpX_spread_2 post (1, 4, o, z, pf_F, pf_G, pf_W, pf_B, c, a6, a7) 2 := by
  have hq : ∀ (s : Int32) (a : Nat → Int32), s = 2 → a 0 = 1 → a 1 = 2 → post (1, 4, o, s, pf_F, pf_G, pf_W, pf_B, c, a, a7) := by
    intro s a h
    subst h
    exact hp a
  repeat (first | refine br_t (by decide +kernel) ?_ | refine br_f (by decide +kernel) ?_ | refine And.intro (vp_in_iff.mpr (by decide +kernel)) ?_ | refine nm_e ?_ | refine Exists.intro 10 ?_)
  exact hq _ _ (by decide +kernel) rfl rfl
theorem pf_sq3 {post : St2 → Prop} {o z : Int32} {c a6 a7 : Nat → Int32} (hp : ∀ a : Nat → Int32, a 0 = 1 → a 1 = 4 → post (1, 4, o, 2, pf_F, pf_G, pf_W, pf_B, c, a, a7)) : wpX_spread_2 post (1, 4, o, z, pf_F, pf_G, pf_W, pf_B, c, a6, a7) 3 := by
  have hq : ∀ (s : Int32) (a : Nat → Int32), s = 2 → a 0 = 1 → a 1 = 4 → post (1, 4, o, s, pf_F, pf_G, pf_W, pf_B, c, a, a7) := by
    intro s a h
    subst h
    exact hp a
  repeat (first | refine br_t (by decide +kernel) ?_ | refine br_f (by decide +kernel) ?_ | refine And.intro (vp_in_iff.mpr (by decide +kernel)) ?_ | refine nm_e ?_ | refine Exists.intro 10 ?_)
  exact hq _ _ (by decide +kernel) rfl rfl
theorem pf_sq {post : St2 → Prop} {o z : Int32} {c a6 a7 : Nat → Int32} {k : Nat} (hk : k < 4) (hp : ∀ a : Nat → Int32, (∀ j, j < pf_s k → a j = pf_l k j) → post (1, 4, o, nI (pf_s k), pf_F, pf_G, pf_W, pf_B, c, a, a7)) : wpX_spread_2 post (1, 4, o, z, pf_F, pf_G, pf_W, pf_B, c, a6, a7) (nI k) := by
  match k, hk with
  | 0, _ => exact pf_sq0 (fun a h0 h1 h2 => hp a (fun j hj => co_3 (P := fun j => a j = pf_l 0 j) h0 h1 h2 hj))
  | 1, _ => exact pf_sq1 (fun a h0 h1 h2 => hp a (fun j hj => co_3 (P := fun j => a j = pf_l 1 j) h0 h1 h2 hj))
  | 2, _ => exact pf_sq2 (fun a h0 h1 => hp a (fun j hj => co_2 (P := fun j => a j = pf_l 2 j) h0 h1 hj))
  | 3, _ => exact pf_sq3 (fun a h0 h1 => hp a (fun j hj => co_2 (P := fun j => a j = pf_l 3 j) h0 h1 hj))
/-! codeOf and path -/
def pf_code (l : Nat → Int32) : Nat → Int32
  | 0 => 0
  | i + 1 => pf_code l i * 10 + l i + 1
theorem pf_codec {a l : Nat → Int32} : ∀ {s : Nat}, (∀ j, j < s → a j = l j) → pf_code a s = pf_code l s := by
  intro s
  induction s with
  | zero => exact fun _ => rfl
  | succ s ih =>
    intro h
    show pf_code a s * 10 + a s + 1 = pf_code l s * 10 + l s + 1
    rw [ih (fun j hj => h j (by omega)), h s (by omega)]
theorem pf_code9 {post : Int32 → St2 → Prop} {q p o : Int32} {a1 a2 a3 a4 a5 a6 a7 : Nat → Int32} {s : Nat} (hs : s ≤ 9) (hp : post (pf_code a6 s) (q, p, o, nI s, a1, a2, a3, a4, a5, a6, a7)) : ∃ n, wX_codeOf_2_9 post q p o (nI s) a1 a2 a3 a4 a5 a6 a7 n 0 0 :=
  pk_loop (fun n i x => wX_codeOf_2_9 post q p o (nI s) a1 a2 a3 a4 a5 a6 a7 n x (nI i)) (fun i x => x = pf_code a6 i) s 0 0 (by omega) rfl
    (fun n x h => by
      subst h
      exact pk_le s s (fun _ => hp) (fun t => absurd t (by omega)))
    (fun n i x hi h hw => by
      subst h
      exact pk_le s i (fun t => absurd t (by omega)) (fun _ => ⟨pk_in i 9 (by omega), nm_r (e' := pf_code a6 (i + 1)) (by rw [nI_clamp (by omega)]; rfl) (nm_r (nI_1 i) (hw _ rfl))⟩))
theorem pf_codeOf {post : Int32 → St2 → Prop} {o z : Int32} {c a6 a7 : Nat → Int32} {k : Nat} (hk : k < 4) (hp : ∀ a : Nat → Int32, post (pf_code (pf_l k) (pf_s k)) (1, 4, o, nI (pf_s k), pf_F, pf_G, pf_W, pf_B, c, a, a7)) : wpX_codeOf_2 post (1, 4, o, z, pf_F, pf_G, pf_W, pf_B, c, a6, a7) (nI k) := by
  unfold wpX_codeOf_2
  dsimp only
  refine pf_sq hk (fun a ha => ?_)
  refine pf_code9 (pf_s9 k) ?_
  rw [pf_codec ha]
  exact hp a
/-- a code goes down to its place -/
def pf_ins : Nat → (Nat → Int32) → (Nat → Int32)
  | 0, a => a
  | j + 1, a => if a j ≤ a (j + 1) then a else pf_ins j (upd (upd a (j + 1) (a j)) j (a (j + 1)))
theorem pf_p42 {post : Int32 → St2 → Prop} {J : Int32 → Int32 → Int32 → Int32 → Int32 → (Nat → Int32) → (Nat → Int32) → (Nat → Int32) → (Nat → Int32) → (Nat → Int32) → (Nat → Int32) → (Nat → Int32) → Prop} {x1 q p o z : Int32} {i : Nat} {a1 a2 a3 a4 a5 a6 : Nat → Int32} :
    ∀ (j : Nat) (a7 : Nat → Int32), j < 160 → J (nI (i + 1)) q p o z a1 a2 a3 a4 a5 a6 (pf_ins j a7) → wX_path_42 post J x1 (nI i) q p o z (j + 1) (nI j) a1 a2 a3 a4 a5 a6 a7 := by
  intro j
  induction j with
  | zero =>
    intro a7 hj h
    exact br_t (by decide) (nm_r (nI_1 i) h)
  | succ j ih =>
    intro a7 hj h
    refine br_f (nI_nle (by omega) (by omega)) (And.intro (pk_in (j + 1) 160 hj) (And.intro (pk_in j 160 (by omega) (nI_pred j)) ?_))
    rw [nI_pred, nI_clamp (show j < 2 ^ 31 by omega), nI_clamp (show j + 1 < 2 ^ 31 by omega)]
    refine br_c (fun g => nm_r (nI_1 i) ?_) (fun g => And.intro (pk_in (j + 1) 160 hj) (nm_e (And.intro (pk_in j 160 (by omega)) (And.intro (pk_in (j + 1) 160 hj) (nm_e (And.intro (pk_in j 160 (by omega)) (nm_e (nm_r (pk_m1 j) ?_))))))))
    · have e : pf_ins (j + 1) a7 = a7 := if_pos g
      rw [e] at h
      exact h
    · have e : pf_ins (j + 1) a7 = pf_ins j (upd (upd a7 (j + 1) (a7 j)) j (a7 (j + 1))) := if_neg g
      rw [e] at h
      exact ih _ (by omega) h
def pf_srt : Nat → (Nat → Int32) → (Nat → Int32)
  | 0, a => a
  | i + 1, a => pf_ins i (upd (pf_srt i a) i (pf_code (pf_l i) (pf_s i)))
theorem pf_path {post : Int32 → St2 → Prop} {o z : Int32} {c a6 a7 : Nat → Int32} {k : Nat} (hk : k < 4) (hp : ∀ z a, post (pf_srt 4 a7 k) (1, 4, o, z, pf_F, pf_G, pf_W, pf_B, c, a, pf_srt 4 a7)) : wpX_path post (1, 4, o, z, pf_F, pf_G, pf_W, pf_B, c, a6, a7) (nI k) := by
  unfold wpX_path
  dsimp only
  refine pf_num ?_
  refine br_f (nI_pos (by omega)) (br_t (nI_lt (b := 4) hk (by decide)) ?_)
  exact pk_loop (fun n i (s : Int32 × (Nat → Int32) × (Nat → Int32)) => wX_path_21 post (nI k) n (nI i) 1 4 o s.1 pf_F pf_G pf_W pf_B c s.2.1 s.2.2) (fun i s => s.2.2 = pf_srt i a7) 4 0 (z, a6, a7) (by omega) rfl
    (fun n s h => by
      obtain ⟨z', a, b⟩ := s
      have h' : b = pf_srt 4 a7 := h
      subst h'
      show wX_path_21 post (nI k) (n + 1) (nI 4) 1 4 o z' pf_F pf_G pf_W pf_B c a (pf_srt 4 a7)
      refine pk_le 4 4 (fun _ => And.intro (pk_in k 160 (by omega)) ?_) (fun t => absurd t (by omega))
      rw [nI_clamp (show k < 2 ^ 31 by omega)]
      exact hp z' a)
    (fun n i s hi h hw => by
      obtain ⟨z', a, b⟩ := s
      have h' : b = pf_srt i a7 := h
      subst h'
      have hw' : ∀ z a, wX_path_21 post (nI k) n (nI (i + 1)) 1 4 o z pf_F pf_G pf_W pf_B c a (pf_srt (i + 1) a7) := fun z a => hw (z, a, pf_srt (i + 1) a7) rfl
      show wX_path_21 post (nI k) (n + 1) (nI i) 1 4 o z' pf_F pf_G pf_W pf_B c a (pf_srt i a7)
      refine pk_le 4 i (fun t => absurd t (by omega)) (fun _ => ?_)
      refine pf_codeOf hi (fun a' => ?_)
      refine And.intro (pk_in i 160 (by omega)) (nm_r (e' := upd (pf_srt i a7) i (pf_code (pf_l i) (pf_s i))) (by rw [nI_clamp (by omega)]) (Exists.intro (i + 1) ?_))
      exact pf_p42 i _ (by omega) (hw' _ _))
theorem pf_path4 {post : Int32 → St2 → Prop} {o z : Int32} {a1 a2 a3 a4 c a6 a7 : Nat → Int32} (hp : post (-4) (1, 4, o, z, a1, a2, a3, a4, c, a6, a7)) : wpX_path post (1, 4, o, z, a1, a2, a3, a4, c, a6, a7) 4 := by
  unfold wpX_path
  dsimp only
  refine pf_num ?_
  exact br_f (by decide) (br_f (show ¬ (4 : Int32) < 4 by decide) hp)
theorem pf_c0 : pf_code (pf_l 0) (pf_s 0) = 123 := by decide +kernel
theorem pf_c1 : pf_code (pf_l 1) (pf_s 1) = 125 := by decide +kernel
theorem pf_c2 : pf_code (pf_l 2) (pf_s 2) = 23 := by decide +kernel
theorem pf_c3 : pf_code (pf_l 3) (pf_s 3) = 25 := by decide +kernel
theorem pf_srtv (a : Nat → Int32) : pf_srt 4 a 0 = 23 ∧ pf_srt 4 a 1 = 25 ∧ pf_srt 4 a 2 = 123 ∧ pf_srt 4 a 3 = 125 := by
  simp [pf_srt, pf_ins, pf_c0, pf_c1, pf_c2, pf_c3, upd]
end
section
/-! the plain law: the counts after both runs, and what is read off them -/
def pf_w (n m : Nat) : Nat := (if n = 0 then 0 else 1) + (if m = 0 then 0 else 1)
def pf_lo (n m : Nat) : Nat := (n - 1) + (m - 1)
def pf_c (n m : Nat) : Nat → Int32
  | 0 => nI (pf_w n m)
  | 1 => nI (if n = 0 then 1 else 0)
  | 2 => nI (pf_lo n m)
  | 3 => nI (if n = 0 then 0 else 1)
  | _ => 0
def pf_on (n m : Nat) : Nat := (if pf_w n m = 0 then 0 else 1) + (if pf_lo n m = 0 then 0 else 1) + 1
def pf_v (n m b : Nat) : Nat := if b = 0 then pf_w n m + (if n = 0 then 1 else 0) else if b = 1 then n + 1 + m else if b = 2 then pf_w n m + pf_lo n m else if b = 4 then 1 else 0
def pf_H (n m : Nat) (c : Nat → Int32) : Prop := n < 16 ∧ m < 16 ∧ ∀ k, k < 4 → c k = pf_c n m k
theorem pf_sumc {c d : Nat → Int32} : ∀ {s : Nat}, (∀ k, k < s → c k = d k) → pf_sum c s = pf_sum d s := by
  intro s
  induction s with
  | zero => exact fun _ => rfl
  | succ s ih =>
    intro h
    show pf_sum c s + c s = pf_sum d s + d s
    rw [ih (fun j hj => h j (by omega)), h s (by omega)]
theorem pf_disc {c d : Nat → Int32} : ∀ {s : Nat}, (∀ k, k < s → c k = d k) → pf_dis c s = pf_dis d s := by
  intro s
  induction s with
  | zero => exact fun _ => rfl
  | succ s ih =>
    intro h
    show (if c s ≤ 0 then pf_dis c s else pf_dis c s + 1) = if d s ≤ 0 then pf_dis d s else pf_dis d s + 1
    rw [ih (fun j hj => h j (by omega)), h s (by omega)]
theorem pf_visc {c d : Nat → Int32} {b : Int32} : ∀ {s : Nat}, (∀ k, k < s → c k = d k) → pf_vis c b s = pf_vis d b s := by
  intro s
  induction s with
  | zero => exact fun _ => rfl
  | succ s ih =>
    intro h
    show (if pf_mem (pf_l s) b (pf_s s) = 0 then pf_vis c b s else pf_vis c b s + c s) = if pf_mem (pf_l s) b (pf_s s) = 0 then pf_vis d b s else pf_vis d b s + d s
    rw [ih (fun j hj => h j (by omega)), h s (by omega)]
theorem pf_arcc {c d : Nat → Int32} {b e : Int32} : ∀ {s : Nat}, (∀ k, k < s → c k = d k) → pf_arc c b e s = pf_arc d b e s := by
  intro s
  induction s with
  | zero => exact fun _ => rfl
  | succ s ih =>
    intro h
    show (if pf_har (pf_l s) b e (pf_s s) = 0 then pf_arc c b e s else pf_arc c b e s + c s) = if pf_har (pf_l s) b e (pf_s s) = 0 then pf_arc d b e s else pf_arc d b e s + d s
    rw [ih (fun j hj => h j (by omega)), h s (by omega)]
theorem pf_updc {c d : Nat → Int32} {q : Nat} (hq : q < 4) (h : ∀ k, k < 4 → c k = d k) : ∀ k, k < 4 → upd c q (c q + 1) k = upd d q (d q + 1) k := by
  intro k hk
  show (if k = q then c q + 1 else c k) = if k = q then d q + 1 else d k
  rw [h k hk, h q hq]
theorem pf_finc : ∀ (t q : Nat) {c d : Nat → Int32}, q < 3 → (∀ k, k < 4 → c k = d k) → ∀ k, k < 4 → pf_fin t q c k = pf_fin t q d k := by
  intro t
  induction t with
  | zero => exact fun q c d hq h => pf_updc (by omega) h
  | succ t ih => exact fun q c d hq h => ih 2 (by omega) (pf_updc (by omega) h)
theorem pf_cyc : ∀ (t q : Nat) {c d : Nat → Int32}, q < 3 → (∀ k, k < 4 → c k = d k) → ∀ k, k < 4 → pf_cy t q c k = pf_cy t q d k := by
  intro t
  induction t with
  | zero => exact fun q c d hq h => h
  | succ t ih => exact fun q c d hq h => ih 2 (by omega) (pf_updc (by omega) h)
theorem pf_cnt : ∀ n, n < 16 → ∀ m, m < 16 → ∀ k, k < 4 → pf_cy m 0 (pf_fin n 0 pf_Z) k = pf_c n m k := by decide +kernel
theorem pf_Hc {n m : Nat} {c : Nat → Int32} (hn : n < 16) (hm : m < 16) (h : ∀ j, j < 160 → c j = 0) : pf_H n m (pf_cy m 0 (pf_fin n 0 c)) :=
  ⟨hn, hm, fun k hk => (pf_cyc m 0 (by omega) (pf_finc n 0 (by omega) (fun j hj => h j (by omega))) k hk).trans (pf_cnt n hn m hm k hk)⟩
theorem pf_k0 : ∀ n, n < 16 → ∀ m, m < 16 → ∀ k, k < 4 → pf_c n m k ≤ 0 → pf_c n m k = 0 := by decide +kernel
theorem pf_k1 : ∀ n, n < 16 → ∀ m, m < 16 → pf_sum (pf_c n m) 4 = nI (n + 1 + m) := by decide +kernel
theorem pf_k2 : ∀ n, n < 16 → ∀ m, m < 16 → pf_dis (pf_c n m) 4 = nI (pf_on n m) := by decide +kernel
theorem pf_k3 : ∀ n, n < 16 → ∀ m, m < 16 → ∀ b, b < 8 → pf_vis (pf_c n m) (nI b) 4 = nI (pf_v n m b) := by decide +kernel
theorem pf_k4 : ∀ b, b < 8 → pf_thr (nI b) 4 = if b = 0 then 2 else if b = 1 then 4 else if b = 2 then 2 else if b = 4 then 2 else 0 := by decide +kernel
theorem pf_k5 : ∀ n, n < 16 → ∀ m, m < 16 → pf_arc (pf_c n m) 1 2 4 = nI (pf_w n m) + nI (pf_lo n m) ∧ pf_arc (pf_c n m) 2 1 4 = 0 ∧ pf_arc (pf_c n m) 1 4 4 = 1 := by decide +kernel
theorem pf_k6 : ∀ n, n < 16 → (1 : Int32) <<< (nI n &&& 31) = nI (2 ^ n) := by decide +kernel
theorem pf_Hk0 {n m : Nat} {c : Nat → Int32} (H : pf_H n m c) : ∀ k, k < 4 → c k ≤ 0 → c k = 0 := by
  obtain ⟨hn, hm, h⟩ := H
  intro k hk
  rw [h k hk]
  exact pf_k0 n hn m hm k hk
theorem pf_Hk1 {n m : Nat} {c : Nat → Int32} (H : pf_H n m c) : pf_sum c 4 = nI (n + 1 + m) := (pf_sumc H.2.2).trans (pf_k1 n H.1 m H.2.1)
theorem pf_Hk2 {n m : Nat} {c : Nat → Int32} (H : pf_H n m c) : pf_dis c 4 = nI (pf_on n m) := (pf_disc H.2.2).trans (pf_k2 n H.1 m H.2.1)
theorem pf_Hk3 {n m b : Nat} {c : Nat → Int32} (H : pf_H n m c) (hb : b < 8) : pf_vis c (nI b) 4 = nI (pf_v n m b) := (pf_visc H.2.2).trans (pf_k3 n H.1 m H.2.1 b hb)
theorem pf_Hk5 {n m : Nat} {c : Nat → Int32} (H : pf_H n m c) : pf_arc c 1 2 4 = nI (pf_w n m) + nI (pf_lo n m) ∧ pf_arc c 2 1 4 = 0 ∧ pf_arc c 1 4 4 = 1 := by
  rw [pf_arcc (b := 1) (e := 2) H.2.2, pf_arcc (b := 2) (e := 1) H.2.2, pf_arcc (b := 1) (e := 4) H.2.2]
  exact pf_k5 n H.1 m H.2.1
theorem pf_sum0 {c : Nat → Int32} (h : ∀ j, j < 160 → c j = 0) : pf_sum c 4 = 0 := by
  rw [pf_sumc (d := pf_Z) (fun k hk => h k (by omega))]
  decide +kernel
end
section
/-! the law, from its end to its head -/
theorem pf_goneN {post : Int32 → St2 → Prop} {p o z : Int32} {c a6 a7 : Nat → Int32} (hp : ∀ w b, post (pf_sum c 4) (1, 4, o, z, upd pf_F 1 4, upd pf_G 1 2, w, b, c, a6, a7)) : wpX_gone post (0, p, o, z, upd pf_F 1 4, upd pf_G 1 2, pf_W, pf_B, c, a6, a7) := by
  unfold wpX_gone
  dsimp only
  refine pf_num2 (fun w b => ?_)
  exact pf_gone8 (hp w b)
theorem pf_527 {post : Int32 → St0 → Prop} {mc ms kc ks n m : Nat} {z : Int32} {c a6 a7 : Nat → Int32} (H : pf_H n m c) (hp : post 1 ()) : wL_lawOf_527 post mc ms (nI (n + 1 + m)) 1 kc ks 1 4 1 z pf_F pf_G pf_W pf_B c a6 a7 := by
  unfold wL_lawOf_527
  refine pf_lead4 ?_
  refine pf_gone ?_
  refine pf_lead5 (fun c' h' => ?_)
  refine br_f (by decide) (br_t rfl (br_t (pf_Hk1 H) (br_t rfl ?_)))
  refine pf_goneN (fun w b => ?_)
  refine br_t (pf_sum0 h') ?_
  refine br_t rfl ?_
  refine pf_hot (fun k hk => h' k (by omega)) ?_
  refine br_t rfl ?_
  refine pf_poss ?_
  exact br_t rfl hp
theorem pf_486 {post : Int32 → St0 → Prop} {mc ms kc ks n m : Nat} {z z0 z1 : Int32} {c a6 a7 : Nat → Int32} (H : pf_H n m c) (hp : post 1 ()) (hz : z1 = z0) : wL_lawOf_486 post mc ms (nI (n + 1 + m)) (nI (pf_w n m)) (nI (pf_lo n m)) z0 z1 kc ks 1 4 1 z pf_F pf_G pf_W pf_B c a6 a7 := by
  refine br_t hz ?_
  refine pf_arcs (pf_Hk0 H) (fun z a => ?_)
  refine br_t (pf_Hk5 H).1 ?_
  refine pf_arcs (pf_Hk0 H) (fun z a => ?_)
  refine br_t (pf_Hk5 H).2.1 ?_
  refine pf_arcs (pf_Hk0 H) (fun z a => ?_)
  refine br_t (pf_Hk5 H).2.2 ?_
  exact pf_527 H hp
theorem pf_481 {post : Int32 → St0 → Prop} {mc ms kc ks n m : Nat} {z z0 : Int32} {c a6 a7 : Nat → Int32} (H : pf_H n m c) (hp : post 1 ()) (hz : z0 = 2) : wL_lawOf_481 post mc ms (nI (n + 1 + m)) (nI (pf_w n m)) (nI (pf_lo n m)) z0 kc ks 1 4 1 z pf_F pf_G pf_W pf_B c a6 a7 := by
  unfold wL_lawOf_481
  exact pf_486 H hp hz
theorem pf_417 {post : Int32 → St0 → Prop} {mc ms kc ks n m b : Nat} {z zz : Int32} {c a6 a7 : Nat → Int32} (H : pf_H n m c) (hb : b < 8) (hp : post 1 ()) (hz : zz = nI (pf_v n m b)) : wL_lawOf_417 post mc ms (nI b) (nI (n + 1 + m)) (nI (pf_w n m)) (nI (pf_lo n m)) 1 (nI (pf_on n m)) zz kc ks 1 4 1 z pf_F pf_G pf_W pf_B c a6 a7 := by
  have k4 := pf_k4 b hb
  subst hz
  refine br_f (by decide) ?_
  refine pf_dist ?_
  refine br_t (pf_Hk2 H) ?_
  refine pf_visits (nI_pos (by omega)) (nI_lt (b := 9) (by omega) (by decide)) (pf_Hk0 H) (fun z a => ?_)
  refine br_t (pf_Hk3 H hb) ?_
  refine pf_through (nI_pos (by omega)) (nI_lt (b := 9) (by omega) (by decide)) (fun z a => ?_)
  refine pk_eq b 0 (fun e0 => pf_486 H hp ?_) (fun e0 => pk_eq b 1 (fun e1 => pf_486 H hp ?_) (fun e1 => pk_eq b 2 (fun e2 => pf_481 H hp ?_) (fun e2 => pk_eq b 4 (fun e4 => pf_481 H hp ?_) (fun e4 => pf_486 H hp ?_))))
  · rw [k4, if_pos e0]
  · rw [k4, if_neg e0, if_pos e1]
  · rw [k4, if_neg e0, if_neg e1, if_pos e2]
  · rw [k4, if_neg e0, if_neg e1, if_neg e2, if_pos e4]
  · rw [k4, if_neg e0, if_neg e1, if_neg e2, if_neg e4]
theorem pf_377 {post : Int32 → St0 → Prop} {mc ms kc ks n m b : Nat} {z z0 z1 : Int32} {c a6 a7 : Nat → Int32} (H : pf_H n m c) (hb : b < 8) (hp : post 1 ()) (hz : z1 + z0 = nI (pf_v n m b)) : wL_lawOf_377 post mc ms (nI b) (nI (n + 1 + m)) (nI (pf_w n m)) (nI (pf_lo n m)) 1 (nI (pf_on n m)) z0 z1 kc ks 1 4 1 z pf_F pf_G pf_W pf_B c a6 a7 := by
  unfold wL_lawOf_377
  exact pf_417 H hb hp hz
theorem pf_355 {post : Int32 → St0 → Prop} {mc ms kc ks n m b : Nat} {z z0 z1 : Int32} {c a6 a7 : Nat → Int32} (H : pf_H n m c) (hb : b < 8) (hp : post 1 ()) (hz : (z1 + z0) + 1 = nI (pf_on n m)) : wL_lawOf_355 post mc ms (nI n) (nI b) (nI (n + 1 + m)) (nI (pf_w n m)) (nI (pf_lo n m)) 1 z0 z1 kc ks 1 4 1 z pf_F pf_G pf_W pf_B c a6 a7 := by
  have hn := H.1
  refine nm_r hz ?_
  refine pk_eq b 0 (fun e0 => pk_le n 0 (fun g => pf_377 H hb hp ?_) (fun g => pf_377 H hb hp ?_)) (fun e0 => pk_eq b 1 (fun e1 => pf_417 H hb hp ?_) (fun e1 => pk_eq b 2 (fun e2 => pf_417 H hb hp ?_) (fun e2 => pk_eq b 4 (fun e4 => pf_417 H hb hp ?_) (fun e4 => pf_417 H hb hp ?_))))
  · have g' : n = 0 := by omega
    rw [nI_1]
    unfold pf_v
    rw [if_pos e0, if_pos g']
  · have g' : ¬ n = 0 := by omega
    rw [Int32.add_zero]
    unfold pf_v
    rw [if_pos e0, if_neg g']
    rfl
  · unfold pf_v
    rw [if_neg e0, if_pos e1]
  · unfold pf_v
    rw [if_neg e0, if_neg e1, if_pos e2, nI_add]
  · unfold pf_v
    rw [if_neg e0, if_neg e1, if_neg e2, if_pos e4]
    rfl
  · unfold pf_v
    rw [if_neg e0, if_neg e1, if_neg e2, if_neg e4]
    rfl
theorem pf_lw {n m : Nat} (hn : n < 16) (hm : m < 16) : pf_w n m ≤ 2 ∧ pf_lo n m ≤ 30 := by
  unfold pf_w pf_lo
  refine ⟨?_, by omega⟩
  split <;> split <;> omega
theorem pf_333 {post : Int32 → St0 → Prop} {mc ms kc ks n m b : Nat} {z : Int32} {c a6 a7 : Nat → Int32} (H : pf_H n m c) (hb : b < 8) (hp : post 1 ()) : wL_lawOf_333 post mc ms (nI n) (nI b) (nI (n + 1 + m)) (nI (pf_w n m)) (nI (pf_lo n m)) 1 kc ks 1 4 1 z pf_F pf_G pf_W pf_B c a6 a7 := by
  have hl := pf_lw H.1 H.2.1
  have hl1 := hl.1
  have hl2 := hl.2
  refine pk_le (pf_w n m) 0 (fun e1 => pk_le (pf_lo n m) 0 (fun e2 => pf_355 H hb hp ?_) (fun e2 => pf_355 H hb hp ?_)) (fun e1 => pk_le (pf_lo n m) 0 (fun e2 => pf_355 H hb hp ?_) (fun e2 => pf_355 H hb hp ?_))
  · unfold pf_on
    rw [if_pos (show pf_w n m = 0 by omega), if_pos (show pf_lo n m = 0 by omega)]
    rfl
  · unfold pf_on
    rw [if_pos (show pf_w n m = 0 by omega), if_neg (show ¬ pf_lo n m = 0 by omega)]
    rfl
  · unfold pf_on
    rw [if_neg (show ¬ pf_w n m = 0 by omega), if_pos (show pf_lo n m = 0 by omega)]
    rfl
  · unfold pf_on
    rw [if_neg (show ¬ pf_w n m = 0 by omega), if_neg (show ¬ pf_lo n m = 0 by omega)]
    rfl
theorem pf_256 {post : Int32 → St0 → Prop} {mc ms kc ks n m b : Nat} {z z0 z1 : Int32} {c a6 a7 : Nat → Int32} (H : pf_H n m c) (hb : b < 8) (hp : post 1 ()) (hz : z1 = z0) : wL_lawOf_256 post mc ms (nI n) (nI b) (nI (n + 1 + m)) (nI (pf_w n m)) (nI (pf_lo n m)) z0 z1 kc ks 1 4 1 z pf_F pf_G pf_W pf_B c a6 a7 := by
  refine br_t hz ?_
  refine pf_t12 ?_
  refine br_t rfl ?_
  refine pf_path (k := 0) (by omega) (fun z a => ?_)
  refine br_t (pf_srtv _).1 ?_
  refine pf_path (k := 1) (by omega) (fun z a => ?_)
  refine br_t (pf_srtv _).2.1 ?_
  refine pf_path (k := 2) (by omega) (fun z a => ?_)
  refine br_t (pf_srtv _).2.2.1 ?_
  refine pf_path (k := 3) (by omega) (fun z a => ?_)
  refine br_t (pf_srtv _).2.2.2 ?_
  refine pf_path4 ?_
  refine br_t rfl ?_
  refine pf_longest (fun z a => ?_)
  exact br_t rfl (pf_333 H hb hp)
theorem pf_237 {post : Int32 → St0 → Prop} {mc ms kc ks n m b : Nat} {z z0 z1 : Int32} {c a6 a7 : Nat → Int32} (H : pf_H n m c) (hb : b < 8) (hp : post 1 ()) (hz : z1 = z0) : wL_lawOf_237 post mc ms (nI n) (nI b) (nI (n + 1 + m)) (nI (pf_w n m)) (nI (pf_lo n m)) z0 z1 kc ks 1 4 1 z pf_F pf_G pf_W pf_B c a6 a7 := by
  have hn := H.1
  refine br_t hz ?_
  refine pf_t125 ?_
  refine pk_le n 0 (fun e => pf_256 H hb hp ?_) (fun e => pf_256 H hb hp ?_)
  · rw [H.2.2 1 (by omega)]
    show nI (if n = 0 then 1 else 0) = 1
    rw [if_pos (by omega)]
    rfl
  · rw [H.2.2 1 (by omega)]
    show nI (if n = 0 then 1 else 0) = 0
    rw [if_neg (by omega)]
    rfl
theorem pf_dbl (n k : Nat) : nI (2 * n + k) = (2 * nI n) + nI k := by
  rw [show (2 : Int32) = nI 2 from rfl, pk_mul, nI_add]
theorem pf_144 {post : Int32 → St0 → Prop} {mc ms kc ks n m b : Nat} {z z0 z1 : Int32} {c a6 a7 : Nat → Int32} (H : pf_H n m c) (hb : b < 8) (hp : post 1 ()) (hz : z1 + z0 = nI (pf_lo n m)) : wL_lawOf_144 post mc ms (nI n) (nI m) (nI b) 0 (nI (2 * n + 2)) (nI (2 * m + 1)) (nI (n + 1 + m)) (nI (pf_w n m)) z0 z1 kc ks 1 4 1 z pf_F pf_G pf_W pf_B c a6 a7 := by
  have hn := H.1
  refine nm_r hz ?_
  refine br_t rfl (br_t (pf_dbl n 2) (br_t (pf_dbl m 1) ?_))
  refine pf_poss ?_
  refine br_t rfl ?_
  refine pf_gone ?_
  refine br_t (pf_Hk1 H) ?_
  refine br_t rfl ?_
  refine pf_t123 ?_
  refine br_t (H.2.2 0 (by omega)) ?_
  refine pf_t23 ?_
  refine br_t (H.2.2 2 (by omega)) ?_
  refine pf_t25 ?_
  refine pk_le n 0 (fun e => pf_237 H hb hp ?_) (fun e => pf_237 H hb hp ?_)
  · rw [H.2.2 3 (by omega)]
    show nI (if n = 0 then 0 else 1) = 0
    rw [if_pos (by omega)]
    rfl
  · rw [H.2.2 3 (by omega)]
    show nI (if n = 0 then 0 else 1) = 1
    rw [if_neg (by omega)]
    rfl
theorem pf_131 {post : Int32 → St0 → Prop} {mc ms kc ks n m b : Nat} {z z0 : Int32} {c a6 a7 : Nat → Int32} (H : pf_H n m c) (hb : b < 8) (hp : post 1 ()) (hz : z0 = nI (n - 1)) : wL_lawOf_131 post mc ms (nI n) (nI m) (nI b) 0 (nI (2 * n + 2)) (nI (2 * m + 1)) (nI (n + 1 + m)) (nI (pf_w n m)) z0 kc ks 1 4 1 z pf_F pf_G pf_W pf_B c a6 a7 := by
  have hm := H.2.1
  subst hz
  refine pk_le m 0 (fun e => pf_144 H hb hp ?_) (fun e => pf_144 H hb hp ?_)
  · rw [Int32.add_zero]
    unfold pf_lo
    rw [show n - 1 + (m - 1) = n - 1 by omega]
  · rw [show nI m - 1 = nI (m - 1) from pk_sub (a := m) (b := 1) (by omega), nI_add]
    rfl
theorem pf_115 {post : Int32 → St0 → Prop} {mc ms kc ks n m b : Nat} {z z0 z1 : Int32} {c a6 a7 : Nat → Int32} (H : pf_H n m c) (hb : b < 8) (hp : post 1 ()) (hz : z1 + z0 = nI (pf_w n m)) : wL_lawOf_115 post mc ms (nI n) (nI m) (nI b) 0 (nI (2 * n + 2)) (nI (2 * m + 1)) (nI (n + 1 + m)) z0 z1 kc ks 1 4 1 z pf_F pf_G pf_W pf_B c a6 a7 := by
  have hn := H.1
  refine nm_r hz ?_
  refine pk_le n 0 (fun e => pf_131 H hb hp ?_) (fun e => pf_131 H hb hp ?_)
  · rw [show n - 1 = 0 by omega]
    rfl
  · exact pk_sub (a := n) (b := 1) (by omega)
theorem pf_lw105 {post : Int32 → St0 → Prop} {mc ms kc ks n m b : Nat} {z z0 : Int32} {c a6 a7 : Nat → Int32} (H : pf_H n m c) (hb : b < 8) (hp : post 1 ()) (hz : z0 = nI (if n = 0 then 0 else 1)) : wL_lawOf_105 post mc ms (nI n) (nI m) (nI b) 0 (nI (2 * n + 2)) (nI (2 * m + 1)) (nI (n + 1 + m)) z0 kc ks 1 4 1 z pf_F pf_G pf_W pf_B c a6 a7 := by
  have hm := H.2.1
  subst hz
  refine pk_le m 0 (fun e => pf_115 H hb hp ?_) (fun e => pf_115 H hb hp ?_)
  · unfold pf_w
    rw [if_pos (show m = 0 by omega), Int32.add_zero]
    rfl
  · unfold pf_w
    rw [if_neg (show ¬ m = 0 by omega), nI_1]
theorem pf_lawOf {post : Int32 → St0 → Prop} {p0 p1 p2 : Int32} (hp : post 1 ()) : wpL_lawOf post 8 376 () p0 p1 p2 := by
  obtain ⟨n, hn, en⟩ := pk_andE p0 (m := 15) 4 (by decide)
  obtain ⟨m, hm, em⟩ := pk_andE p1 (m := 15) 4 (by decide)
  obtain ⟨b, hb, eb⟩ := pk_andE p2 (m := 7) 3 (by decide)
  have hn' : n < 16 := hn
  have hm' : m < 16 := hm
  have hb' : b < 8 := hb
  unfold wpL_lawOf
  refine ⟨by omega, by omega, 7, 365, by omega, by omega, ?_⟩
  refine pf_init (by omega) (by omega) ?_
  refine nm_r en (nm_r em (nm_r eb ?_))
  refine pf_lead0 (fun c1 h1 => ?_)
  refine pf_lead1 (fun c2 h2 => ?_)
  refine pf_lead2 (fun c3 h3 => ?_)
  refine pf_lead3 ?_
  refine nm_r (pf_k6 n hn') ?_
  rw [nI_1]
  refine pf_run1 hn' ?_
  refine pf_run2 hm' ?_
  rw [show (0 : Int32) + 1 = 1 from by decide]
  refine nm_r (nI_add (n + 1) m) ?_
  have H := pf_Hc hn' hm' h3
  refine pk_le n 0 (fun e => pf_lw105 H hb' hp ?_) (fun e => pf_lw105 H hb' hp ?_)
  · rw [if_pos (show n = 0 by omega)]
    rfl
  · rw [if_neg (show ¬ n = 0 by omega)]
    rfl
theorem pf_cell {post : Int32 → Prop} {L : Nat} {xs : Nat → Int32} {x : Int32} (k : Nat) (hL : L ≤ 3) (hk : k < 3) (hx : x = nI k) (h : ∀ r, post r) : wpL_cellAt post L xs () x := by
  subst hx
  exact pk_le L k (fun _ => h _) (fun g => And.intro (pk_in k L g) (h _))
theorem i_vc (xs : Nat → Int32) (L : Nat) (hL : L ≤ 3) : wpL_law (fun r => r = 1) L xs := by
  unfold wpL_law
  refine pf_cell 0 hL (by omega) rfl (fun r1 => ?_)
  refine pf_cell 1 hL (by omega) rfl (fun r2 => ?_)
  refine pf_cell 2 hL (by omega) rfl (fun r3 => ?_)
  exact ⟨8, 376, by omega, by omega, pf_lawOf rfl⟩
end
