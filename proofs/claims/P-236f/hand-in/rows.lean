section
theorem pk_us {f : Nat → Int32} {k : Nat} {x : Int32} : upd f k x k = x := if_pos rfl
theorem pk_un {f : Nat → Int32} {k j : Nat} {x : Int32} (h : j ≠ k) : upd f k x j = f j := if_neg h
theorem pk_uLs {f : Nat → Int64} {k : Nat} {x : Int64} : vp_updL f k x k = x := if_pos rfl
theorem pk_uLn {f : Nat → Int64} {k j : Nat} {x : Int64} (h : j ≠ k) : vp_updL f k x j = f j := if_neg h
theorem pk_ix (x : Int32) {n : Nat} (hn : n < 2 ^ 31) : x < 0 ∨ nI n ≤ x ∨ ∃ j : Nat, j < n ∧ x = nI j := by
  by_cases h : x < 0
  · exact Or.inl h
  · obtain ⟨j, hj, rfl⟩ := nI_of h
    by_cases h2 : j < n
    · exact Or.inr (Or.inr ⟨j, h2, rfl⟩)
    · exact Or.inr (Or.inl (nI_le (by omega) hj))
/-- the word of an event -/
def tr_ev (e n v : Int32) : Int32 := ((e <<< ((12 : Int32) &&& 31)) ||| (n <<< ((4 : Int32) &&& 31))) ||| v
/-- a char keeps it -/
def tr_ok (e n v : Int32) : Prop := vp_nar .char (((tr_ev e n v).toUInt32 % 65536).toInt32) = tr_ev e n v
theorem tr_evN : ∀ e, e < 4 → ∀ n, n < 10 → ∀ v, v < 5 → vp_nar .char (((tr_ev (nI e) (nI n) (nI v)).toUInt32 % 65536).toInt32) = tr_ev (nI e) (nI n) (nI v) := by decide +kernel
theorem tr_evo {e n v : Nat} (he : e < 4) (hn : n < 10) (hv : v < 5) : tr_ok (nI e) (nI n) (nI v) := tr_evN e he n hn v hv
theorem tr_nb : ∀ v, v < 5 → vp_nar .byte (nI v).toInt8.toInt32 = nI v := by decide +kernel
theorem tr_ns : ∀ v, v < 10 → vp_nar .short (nI v).toInt16.toInt32 = nI v := by decide +kernel
theorem tr_cl {p : Nat} (h : p < 10) : (nI p).toNatClampNeg = p := nI_clamp (by omega)
theorem tr_in {p : Nat} (h : p < 10) : vp_in (nI p) 10 := vp_in_nI h (by decide)
section
variable {N L : Nat} {ck yc : Int64} {pa pb kd w vx vy lg sn sx sm ss so : Nat → Int32} {cs fx fy : Nat → Int64}
theorem tr_put {post : SX → Prop} {e nd v : Int32} (hL : L < 20) (h : post (nI N, ck, nI (L + 1), pa, kd, w, cs, vx, fx, upd lg L (tr_ev e nd v), sn, sx, sm, ss)) : wpX_put post (nI N, ck, nI L, pa, kd, w, cs, vx, fx, lg, sn, sx, sm, ss) e nd v := by
  unfold wpX_put
  dsimp only
  refine br_f (nI_ge (b := 20) hL (by decide)) ⟨vp_in_nI hL (by decide), nm_r (e' := upd lg L (tr_ev e nd v)) ?_ (nm_r (e' := nI (L + 1)) (nI_1 L) h)⟩
  rw [nI_clamp (by omega)]
  rfl
theorem tr_emit {post : SY → Prop} {e nd v : Int32} (hL : L < 20) (hE : tr_ok e nd v) (h : post (nI N, nI (L + 1), yc, pb, kd, w, cs, vy, fy, upd lg L (tr_ev e nd v), sn, ss, sx, so)) : wpY_emit post (nI N, nI L, yc, pb, kd, w, cs, vy, fy, lg, sn, ss, sx, so) e nd v := by
  unfold wpY_emit
  dsimp only
  refine nm_r (e' := nI (L + 1)) (nI_1 L) ⟨vp_in_nI hL (by decide), nm_r (e' := upd lg L (tr_ev e nd v)) ?_ h⟩
  rw [nI_clamp (by omega)]
  exact congrArg (upd lg L) hE
end
end
section
/-- what a node's own part before its children does: the clock and the verdict to hand on -/
def tr_own (x : Int32) (k ck ck' : Int64) (s : Int32) : Prop := (¬ (x &&& 2) = 0 ∧ s = 3 ∧ ck' = ck) ∨ ((x &&& 2) = 0 ∧ ck' = ck + k ∧ (((x &&& 12) = 4 ∧ s = 3) ∨ (¬ (x &&& 12) = 4 ∧ (x &&& 12) = 8 ∧ s = 2) ∨ (¬ (x &&& 12) = 4 ∧ ¬ (x &&& 12) = 8 ∧ s = 0)))
theorem tr_own_ex (x : Int32) (k ck : Int64) : ∃ ck' s, tr_own x k ck ck' s ∧ (s = 0 ∨ s = 2 ∨ s = 3) := by
  by_cases h2 : (x &&& 2) = 0
  · by_cases h4 : (x &&& 12) = 4
    · exact ⟨_, 3, Or.inr ⟨h2, rfl, Or.inl ⟨h4, rfl⟩⟩, Or.inr (Or.inr rfl)⟩
    · by_cases h8 : (x &&& 12) = 8
      · exact ⟨_, 2, Or.inr ⟨h2, rfl, Or.inr (Or.inl ⟨h4, h8, rfl⟩)⟩, Or.inr (Or.inl rfl)⟩
      · exact ⟨_, 0, Or.inr ⟨h2, rfl, Or.inr (Or.inr ⟨h4, h8, rfl⟩)⟩, Or.inl rfl⟩
  · exact ⟨_, 3, Or.inl ⟨h2, rfl, rfl⟩, Or.inr (Or.inr rfl)⟩
section
variable {N L p c : Nat} {ck ck' yc : Int64} {pa pb kd w vx vy lg sn sx sm ss so : Nat → Int32} {cs fx fy : Nat → Int64} {h s x : Int32}
theorem tr_en40 {post : SX → Prop} (hp : p < 10) (hc : c < 10) (hL : L < 20) (H : post (nI N, ck, nI (L + 1), pa, kd, w, cs, upd vx c 4, vp_updL fx c ck, upd lg L (tr_ev 2 (nI c) 4), sn, sx, upd sm p 0, upd ss p 4)) : wX_enter_40 post (nI p) (nI c) (nI N) ck (nI L) pa kd w cs vx fx lg sn sx sm ss := by
  unfold wX_enter_40
  refine tr_put hL ?_
  dsimp only
  rw [tr_cl hc, tr_cl hp]
  exact ⟨tr_in hc, nm_e ⟨tr_in hc, nm_e ⟨tr_in hp, nm_e ⟨tr_in hp, nm_e H⟩⟩⟩⟩
theorem tr_en91 {post : SX → Prop} (hp : p < 10) (hL : L < 20) (H : post (nI N, ck, nI (L + 1), pa, kd, w, cs, vx, fx, upd lg L (tr_ev 1 (nI c) 0), sn, sx, upd sm p 1, upd ss p h)) : wX_enter_91 post (nI p) (nI c) h (nI N) ck (nI L) pa kd w cs vx fx lg sn sx sm ss := by
  unfold wX_enter_91
  refine tr_put hL ?_
  dsimp only
  rw [tr_cl hp]
  exact ⟨tr_in hp, nm_e ⟨tr_in hp, nm_e H⟩⟩
theorem tr_en182 {post : SX → Prop} {l : Int32} (hp : p < 10) (H : post (nI N, ck, l, pa, kd, w, cs, vx, fx, lg, sn, sx, upd sm p 2, upd ss p s)) : wX_enter_182 post (nI p) s (nI N) ck l pa kd w cs vx fx lg sn sx sm ss := by
  unfold wX_enter_182
  rw [tr_cl hp]
  exact ⟨tr_in hp, nm_e ⟨tr_in hp, nm_e H⟩⟩
theorem tr_enO {post : SX → Prop} (hp : p < 10) (hc : c < 10) (hL : L < 20) (ho : tr_own x (cs c) ck ck' s) (H : post (nI N, ck', nI (L + 1), pa, kd, w, cs, vx, fx, upd lg L (tr_ev 1 (nI c) 0), sn, sx, upd sm p 2, upd ss p s)) : wX_enter_81 post (nI p) (nI c) 0 x (nI N) ck (nI L) pa kd w cs vx fx lg sn sx sm ss := by
  unfold wX_enter_81
  refine br_f (by decide) (br_f (by decide) (tr_put hL ?_))
  dsimp only
  rw [tr_cl hc]
  rcases ho with ⟨h2, rfl, rfl⟩ | ⟨h2, rfl, hs⟩
  · exact br_f h2 (tr_en182 hp H)
  · refine br_t h2 ⟨tr_in hc, nm_e (nm_e ?_)⟩
    rcases hs with ⟨h4, rfl⟩ | ⟨h4, h8, rfl⟩ | ⟨h4, h8, rfl⟩
    · exact br_t h4 (tr_en182 hp H)
    · exact br_f h4 (br_t h8 (tr_en182 hp H))
    · exact br_f h4 (br_f h8 (tr_en182 hp H))
theorem tr_xskip {post : SX → Prop} (hp : p < 10) (hc : c < 10) (hL : L < 20) (hh : h = 4 ∨ (h = 0 ∧ ¬ (w c &&& 1) = 0)) (H : post (nI N, ck, nI (L + 1), pa, kd, w, cs, upd vx c 4, vp_updL fx c ck, upd lg L (tr_ev 2 (nI c) 4), upd sn p (nI c), upd sx p (nI (c + 1)), upd sm p 0, upd ss p 4)) : wpX_enter post (nI N, ck, nI L, pa, kd, w, cs, vx, fx, lg, sn, sx, sm, ss) (nI p) (nI c) h := by
  unfold wpX_enter
  dsimp only
  rw [tr_cl hc, tr_cl hp, nI_1 c]
  refine ⟨tr_in hc, nm_e ⟨tr_in hp, nm_e ⟨tr_in hp, nm_e ?_⟩⟩⟩
  rcases hh with rfl | ⟨rfl, h1⟩
  · exact br_t rfl (tr_en40 hp hc hL H)
  · exact br_f (by decide) (br_t rfl (br_f h1 (tr_en40 hp hc hL H)))
theorem tr_xinh {post : SX → Prop} (hp : p < 10) (hc : c < 10) (hL : L < 20) (hh : h = 2 ∨ h = 3) (H : post (nI N, ck, nI (L + 1), pa, kd, w, cs, vx, fx, upd lg L (tr_ev 1 (nI c) 0), upd sn p (nI c), upd sx p (nI (c + 1)), upd sm p 1, upd ss p h)) : wpX_enter post (nI N, ck, nI L, pa, kd, w, cs, vx, fx, lg, sn, sx, sm, ss) (nI p) (nI c) h := by
  unfold wpX_enter
  dsimp only
  rw [tr_cl hc, tr_cl hp, nI_1 c]
  refine ⟨tr_in hc, nm_e ⟨tr_in hp, nm_e ⟨tr_in hp, nm_e ?_⟩⟩⟩
  unfold wX_enter_81
  rcases hh with rfl | rfl
  · exact br_f (by decide) (br_f (by decide) (br_t rfl (tr_en91 hp hL H)))
  · exact br_f (by decide) (br_f (by decide) (br_f (by decide) (br_t rfl (tr_en91 hp hL H))))
theorem tr_xown {post : SX → Prop} (hp : p < 10) (hc : c < 10) (hL : L < 20) (h1 : (w c &&& 1) = 0) (ho : tr_own (w c) (cs c) ck ck' s) (H : post (nI N, ck', nI (L + 1), pa, kd, w, cs, vx, fx, upd lg L (tr_ev 1 (nI c) 0), upd sn p (nI c), upd sx p (nI (c + 1)), upd sm p 2, upd ss p s)) : wpX_enter post (nI N, ck, nI L, pa, kd, w, cs, vx, fx, lg, sn, sx, sm, ss) (nI p) (nI c) 0 := by
  unfold wpX_enter
  dsimp only
  rw [tr_cl hc, tr_cl hp, nI_1 c]
  refine ⟨tr_in hc, nm_e ⟨tr_in hp, nm_e ⟨tr_in hp, nm_e ?_⟩⟩⟩
  exact br_f (by decide) (br_t rfl (br_t h1 (tr_enO hp hc hL ho H)))
end
section
variable {N L p c : Nat} {ck ck' yc : Int64} {pb kd w vy lg sn sx ss so : Nat → Int32} {cs fy : Nat → Int64} {h s x ow x6 x7 l : Int32} {post : Int32 → SY → Prop} {J : Int64 → Int32 → Int32 → Int32 → Int32 → Int32 → Int32 → Int64 → (Nat → Int32) → (Nat → Int32) → (Nat → Int32) → (Nat → Int64) → (Nat → Int32) → (Nat → Int64) → (Nat → Int32) → (Nat → Int32) → (Nat → Int32) → (Nat → Int32) → (Nat → Int32) → Prop}
theorem tr_y184 (hp : p < 10) (hb : vp_nar .boolean ow = ow) (H : J ck (nI (p + 1)) x6 x7 0 (nI N) l yc pb kd w cs vy fy lg (upd sn p (nI c)) (upd ss p s) (upd sx p (nI (c + 1))) (upd so p ow)) : wY_run_184 post J ck (nI p) x6 x7 (nI c) s ow (nI N) l yc pb kd w cs vy fy lg sn ss sx so := by
  unfold wY_run_184
  rw [tr_cl hp, nI_1 c, nI_1 p, hb]
  exact ⟨tr_in hp, nm_e ⟨tr_in hp, nm_e ⟨tr_in hp, nm_e ⟨tr_in hp, nm_e (nm_e H)⟩⟩⟩⟩
theorem tr_y113n (hp : p < 10) (H : J ck (nI (p + 1)) x6 x7 0 (nI N) l yc pb kd w cs vy fy lg (upd sn p (nI c)) (upd ss p s) (upd sx p (nI (c + 1))) (upd so p 0)) : wY_run_113 post J ck (nI p) x6 x7 (nI c) x s 0 (nI N) l yc pb kd w cs vy fy lg sn ss sx so := by
  unfold wY_run_113
  exact br_t rfl (tr_y184 hp rfl H)
theorem tr_y113o (hp : p < 10) (hc : c < 10) (ho : tr_own x (cs c) ck ck' s) (H : J ck' (nI (p + 1)) x6 x7 0 (nI N) l yc pb kd w cs vy fy lg (upd sn p (nI c)) (upd ss p s) (upd sx p (nI (c + 1))) (upd so p 1)) : wY_run_113 post J ck (nI p) x6 x7 (nI c) x 0 1 (nI N) l yc pb kd w cs vy fy lg sn ss sx so := by
  unfold wY_run_113
  rw [tr_cl hc]
  refine br_f (by decide) ?_
  rcases ho with ⟨h2, rfl, rfl⟩ | ⟨h2, rfl, hs⟩
  · exact br_f h2 (tr_y184 hp rfl H)
  · refine br_t h2 ⟨tr_in hc, nm_e (nm_e ?_)⟩
    rcases hs with ⟨h4, rfl⟩ | ⟨h4, h8, rfl⟩ | ⟨h4, h8, rfl⟩
    · exact br_t h4 (tr_y184 hp rfl H)
    · exact br_f h4 (br_t h8 (tr_y184 hp rfl H))
    · exact br_f h4 (br_f h8 (tr_y184 hp rfl H))
theorem tr_yskip (hp : p < 10) (hc : c < 10) (hL : L < 20) (hh : h = 4 ∨ (h = 0 ∧ ¬ (w c &&& 1) = 0)) (H : J ck (nI (p + 1)) (nI c) h 0 (nI N) (nI (L + 1)) yc pb kd w cs vy fy (upd lg L (tr_ev 2 (nI c) 4)) (upd sn p (nI c)) (upd ss p 4) (upd sx p (nI (c + 1))) (upd so p 0)) : wY_run_42 post J ck (nI p) (nI c) h 1 (nI N) (nI L) yc pb kd w cs vy fy lg sn ss sx so := by
  have E : tr_ok 2 (nI c) 4 := tr_evo (e := 2) (v := 4) (by decide) hc (by decide)
  have K : wY_run_88 post J ck (nI p) (nI c) h (nI c) (w c) 4 0 (nI N) (nI L) yc pb kd w cs vy fy lg sn ss sx so := by
    unfold wY_run_88
    refine br_t rfl (tr_emit hL E ?_)
    dsimp only
    exact tr_y113n hp H
  unfold wY_run_42
  rw [tr_cl hc]
  refine br_f (by decide) ⟨tr_in hc, nm_e ?_⟩
  rcases hh with rfl | ⟨rfl, h1⟩
  · exact br_f (by decide) K
  · exact br_t rfl (br_f h1 K)
theorem tr_yinh (hp : p < 10) (hc : c < 10) (hL : L < 20) (hh : h = 2 ∨ h = 3) (H : J ck (nI (p + 1)) (nI c) h 0 (nI N) (nI (L + 1)) yc pb kd w cs vy fy (upd lg L (tr_ev 1 (nI c) 0)) (upd sn p (nI c)) (upd ss p h) (upd sx p (nI (c + 1))) (upd so p 0)) : wY_run_42 post J ck (nI p) (nI c) h 1 (nI N) (nI L) yc pb kd w cs vy fy lg sn ss sx so := by
  have E : tr_ok 1 (nI c) 0 := tr_evo (e := 1) (v := 0) (by decide) hc (by decide)
  have h4 : ¬ h = 4 := by rcases hh with rfl | rfl <;> decide
  have h0 : ¬ h = 0 := by rcases hh with rfl | rfl <;> decide
  have K : wY_run_88 post J ck (nI p) (nI c) h (nI c) (w c) h 0 (nI N) (nI L) yc pb kd w cs vy fy lg sn ss sx so := by
    unfold wY_run_88
    refine br_f h4 (tr_emit hL E ?_)
    dsimp only
    exact tr_y113n hp H
  unfold wY_run_42
  rw [tr_cl hc]
  exact br_f (by decide) ⟨tr_in hc, nm_e (br_f h0 K)⟩
theorem tr_yown (hp : p < 10) (hc : c < 10) (hL : L < 20) (h1 : (w c &&& 1) = 0) (ho : tr_own (w c) (cs c) ck ck' s) (H : J ck' (nI (p + 1)) (nI c) 0 0 (nI N) (nI (L + 1)) yc pb kd w cs vy fy (upd lg L (tr_ev 1 (nI c) 0)) (upd sn p (nI c)) (upd ss p s) (upd sx p (nI (c + 1))) (upd so p 1)) : wY_run_42 post J ck (nI p) (nI c) 0 1 (nI N) (nI L) yc pb kd w cs vy fy lg sn ss sx so := by
  have E : tr_ok 1 (nI c) 0 := tr_evo (e := 1) (v := 0) (by decide) hc (by decide)
  have K : wY_run_88 post J ck (nI p) (nI c) 0 (nI c) (w c) 0 1 (nI N) (nI L) yc pb kd w cs vy fy lg sn ss sx so := by
    unfold wY_run_88
    refine br_f (by decide) (tr_emit hL E ?_)
    dsimp only
    exact tr_y113o hp hc ho H
  unfold wY_run_42
  rw [tr_cl hc]
  exact br_f (by decide) ⟨tr_in hc, nm_e (br_t rfl (br_t h1 K))⟩
end
/-- what the outcomes of an entry have in common -/
def tr_Ent (ck : Int64) (h : Int32) (c : Nat) (vx : Nat → Int32) (fx : Nat → Int64) (ck' : Int64) (md s ow : Int32) (vx' : Nat → Int32) (fx' : Nat → Int64) : Prop :=
  (md = 0 ∧ s = 4 ∧ ow = 0 ∧ ck' = ck ∧ vx' = upd vx c 4 ∧ fx' = vp_updL fx c ck) ∨ (md = 1 ∧ (s = 2 ∨ s = 3) ∧ ow = 0 ∧ ck' = ck ∧ vx' = vx ∧ fx' = fx ∧ h ≠ 4 ∧ h ≠ 0) ∨ (md = 2 ∧ h = 0 ∧ (s = 0 ∨ s = 2 ∨ s = 3) ∧ ow = 1 ∧ vx' = vx ∧ fx' = fx)
theorem tr_enter {N L p c : Nat} {ck yc : Int64} {pa pb kd w vx vy lg sn sx sm ss so : Nat → Int32} {cs fx fy : Nat → Int64} {h : Int32} (hp : p < 10) (hc : c < 10) (hL : L < 20) (hh : h = 0 ∨ h = 2 ∨ h = 3 ∨ h = 4) :
    ∃ ck' z md s ow vx' fx', tr_Ent ck h c vx fx ck' md s ow vx' fx' ∧
      (∀ post : SX → Prop, post (nI N, ck', nI (L + 1), pa, kd, w, cs, vx', fx', upd lg L z, upd sn p (nI c), upd sx p (nI (c + 1)), upd sm p md, upd ss p s) → wpX_enter post (nI N, ck, nI L, pa, kd, w, cs, vx, fx, lg, sn, sx, sm, ss) (nI p) (nI c) h) ∧
      (∀ (post : Int32 → SY → Prop) (J : Int64 → Int32 → Int32 → Int32 → Int32 → Int32 → Int32 → Int64 → (Nat → Int32) → (Nat → Int32) → (Nat → Int32) → (Nat → Int64) → (Nat → Int32) → (Nat → Int64) → (Nat → Int32) → (Nat → Int32) → (Nat → Int32) → (Nat → Int32) → (Nat → Int32) → Prop), J ck' (nI (p + 1)) (nI c) h 0 (nI N) (nI (L + 1)) yc pb kd w cs vy fy (upd lg L z) (upd sn p (nI c)) (upd ss p s) (upd sx p (nI (c + 1))) (upd so p ow) → wY_run_42 post J ck (nI p) (nI c) h 1 (nI N) (nI L) yc pb kd w cs vy fy lg sn ss sx so) := by
  have sk : (h = 4 ∨ (h = 0 ∧ ¬ (w c &&& 1) = 0)) ∨ (h = 2 ∨ h = 3) ∨ (h = 0 ∧ (w c &&& 1) = 0) := by
    rcases hh with q | q | q | q
    · by_cases h1 : (w c &&& 1) = 0
      · exact Or.inr (Or.inr ⟨q, h1⟩)
      · exact Or.inl (Or.inr ⟨q, h1⟩)
    · exact Or.inr (Or.inl (Or.inl q))
    · exact Or.inr (Or.inl (Or.inr q))
    · exact Or.inl (Or.inl q)
  rcases sk with q | q | ⟨rfl, h1⟩
  · exact ⟨ck, tr_ev 2 (nI c) 4, 0, 4, 0, upd vx c 4, vp_updL fx c ck, Or.inl ⟨rfl, rfl, rfl, rfl, rfl, rfl⟩, fun post H => tr_xskip hp hc hL q H, fun post J H => tr_yskip hp hc hL q H⟩
  · have h4 : h ≠ 4 := by rcases q with rfl | rfl <;> decide
    have h0 : h ≠ 0 := by rcases q with rfl | rfl <;> decide
    exact ⟨ck, tr_ev 1 (nI c) 0, 1, h, 0, vx, fx, Or.inr (Or.inl ⟨rfl, q, rfl, rfl, rfl, rfl, h4, h0⟩), fun post H => tr_xinh hp hc hL q H, fun post J H => tr_yinh hp hc hL q H⟩
  · obtain ⟨ck', s, ho, hs⟩ := tr_own_ex (w c) (cs c) ck
    exact ⟨ck', tr_ev 1 (nI c) 0, 2, s, 1, vx, fx, Or.inr (Or.inr ⟨rfl, rfl, hs, rfl, rfl, rfl⟩), fun post H => tr_xown hp hc hL h1 ho H, fun post J H => tr_yown hp hc hL h1 ho H⟩
end
section
/-- mode (component), handed verdict (both), own flag (reference) of a stacked node -/
def tr_md (md s ow : Int32) : Prop := (md = 0 ∧ s = 4 ∧ ow = 0) ∨ (md = 1 ∧ (s = 2 ∨ s = 3) ∧ ow = 0) ∨ (md = 2 ∧ (s = 0 ∨ s = 2 ∨ s = 3) ∧ ow = 1)
/-- the verdict in the end of a node that did its own part -/
def tr_fin (x s v : Int32) : Prop := (¬ (x &&& 16) = 0 ∧ v = 3) ∨ ((x &&& 16) = 0 ∧ ((s = 0 ∧ v = 1) ∨ (¬ s = 0 ∧ v = s)))
theorem tr_fin_ex (x s : Int32) (hs : s = 0 ∨ s = 2 ∨ s = 3) : ∃ v, tr_fin x s v ∧ (v = 1 ∨ v = 2 ∨ v = 3) := by
  by_cases h : (x &&& 16) = 0
  · rcases hs with rfl | rfl | rfl
    · exact ⟨1, Or.inr ⟨h, Or.inl ⟨rfl, rfl⟩⟩, Or.inl rfl⟩
    · exact ⟨2, Or.inr ⟨h, Or.inr ⟨by decide, rfl⟩⟩, Or.inr (Or.inl rfl)⟩
    · exact ⟨3, Or.inr ⟨h, Or.inr ⟨by decide, rfl⟩⟩, Or.inr (Or.inr rfl)⟩
  · exact ⟨3, Or.inl ⟨h, rfl⟩, Or.inr (Or.inr rfl)⟩
theorem tr_v123 {v : Int32} (h : v = 1 ∨ v = 2 ∨ v = 3) : ∃ k, k < 4 ∧ 0 < k ∧ v = nI k := by
  rcases h with rfl | rfl | rfl
  · exact ⟨1, by decide, by decide, rfl⟩
  · exact ⟨2, by decide, by decide, rfl⟩
  · exact ⟨3, by decide, by decide, rfl⟩
theorem tr_v0 {v : Int32} (h : v = 1 ∨ v = 2 ∨ v = 3) : ¬ v = 0 := by rcases h with rfl | rfl | rfl <;> decide
theorem tr_v4 {v : Int32} (h : v = 1 ∨ v = 2 ∨ v = 3) : ¬ v = 4 := by rcases h with rfl | rfl | rfl <;> decide
section
variable {N L t d : Nat} {ck : Int64} {pa kd w vx lg sn sx sm ss : Nat → Int32} {cs fx : Nat → Int64} {s v : Int32} {post : Int32 → SX → Prop} {J : Int32 → Int32 → Int64 → Int32 → (Nat → Int32) → (Nat → Int32) → (Nat → Int32) → (Nat → Int64) → (Nat → Int32) → (Nat → Int64) → (Nat → Int32) → (Nat → Int32) → (Nat → Int32) → (Nat → Int32) → (Nat → Int32) → Prop}
theorem tr_x130a (ht : t < 10) (hm : sm t = 0) (H : J (nI t) (nI N) ck (nI L) pa kd w cs vx fx lg sn sx sm ss) : wX_run_130 post J (nI (t + 1)) (nI t) (nI d) (nI N) ck (nI L) pa kd w cs vx fx lg sn sx sm ss := by
  unfold wX_run_130
  rw [tr_cl ht, nI_pred t, hm]
  exact ⟨tr_in ht, nm_e (br_f (by decide) (br_f (by decide) (nm_e H)))⟩
theorem tr_x130b (ht : t < 10) (hd : d < 10) (hL : L < 20) (hm : sm t = 1) (H : J (nI t) (nI N) ck (nI (L + 1)) pa kd w cs (upd vx d (ss t)) (vp_updL fx d ck) (upd lg L (tr_ev 3 (nI d) (ss t))) sn sx sm ss) : wX_run_130 post J (nI (t + 1)) (nI t) (nI d) (nI N) ck (nI L) pa kd w cs vx fx lg sn sx sm ss := by
  unfold wX_run_130
  rw [tr_cl ht, nI_pred t, hm]
  refine ⟨tr_in ht, nm_e (br_t rfl ⟨tr_in ht, nm_e (tr_put hL ?_)⟩)⟩
  dsimp only
  rw [tr_cl hd]
  exact ⟨tr_in hd, nm_e ⟨tr_in hd, nm_e (nm_e H)⟩⟩
theorem tr_x229 (hd : d < 10) (hL : L < 20) (H : J (nI t) (nI N) ck (nI (L + 1)) pa kd w cs (upd vx d v) (vp_updL fx d ck) (upd lg L (tr_ev 3 (nI d) v)) sn sx sm ss) : wX_run_229 post J (nI (t + 1)) (nI d) v (nI N) ck (nI L) pa kd w cs vx fx lg sn sx sm ss := by
  unfold wX_run_229
  refine tr_put hL ?_
  dsimp only
  rw [tr_cl hd, nI_pred t]
  exact ⟨tr_in hd, nm_e ⟨tr_in hd, nm_e (nm_e H)⟩⟩
theorem tr_x130c (ht : t < 10) (hd : d < 10) (hL : L < 20) (hm : sm t = 2) (hf : tr_fin (w d) (ss t) v) (H : J (nI t) (nI N) ck (nI (L + 1)) pa kd w cs (upd vx d v) (vp_updL fx d ck) (upd lg L (tr_ev 3 (nI d) v)) sn sx sm ss) : wX_run_130 post J (nI (t + 1)) (nI t) (nI d) (nI N) ck (nI L) pa kd w cs vx fx lg sn sx sm ss := by
  unfold wX_run_130
  rw [tr_cl ht, hm, tr_cl hd]
  refine ⟨tr_in ht, nm_e (br_f (by decide) (br_t rfl ⟨tr_in ht, nm_e ⟨tr_in hd, ?_⟩⟩))⟩
  rcases hf with ⟨h1, rfl⟩ | ⟨h1, ⟨h2, rfl⟩ | ⟨h2, rfl⟩⟩
  · exact br_f h1 (br_f (by decide) (tr_x229 hd hL H))
  · exact br_t h1 (br_t h2 (tr_x229 hd hL H))
  · exact br_t h1 (br_f h2 (tr_x229 hd hL H))
end
section
variable {N L t d c : Nat} {ck yc : Int64} {pb kd w vy lg sn sx ss so : Nat → Int32} {cs fy : Nat → Int64} {s v x5 x6 x7 : Int32} {post : Int32 → SY → Prop} {J : Int64 → Int32 → Int32 → Int32 → Int32 → Int32 → Int32 → Int64 → (Nat → Int32) → (Nat → Int32) → (Nat → Int32) → (Nat → Int64) → (Nat → Int32) → (Nat → Int64) → (Nat → Int32) → (Nat → Int32) → (Nat → Int32) → (Nat → Int32) → (Nat → Int32) → Prop}
theorem tr_y379 {l : Int32} (hd : d < 10) (hb : vp_nar .byte v.toInt8.toInt32 = v) (H : J ck (nI t) x6 x7 0 (nI N) l yc pb kd w cs (upd vy d v) (vp_updL fy d ck) lg sn ss sx so) : wY_run_379 post J ck x6 x7 0 (nI t) (nI d) v (nI N) l yc pb kd w cs vy fy lg sn ss sx so := by
  unfold wY_run_379
  rw [tr_cl hd, hb]
  exact ⟨tr_in hd, nm_e ⟨tr_in hd, nm_e H⟩⟩
theorem tr_y364 (hd : d < 10) (hL : L < 20) (hv : v = 1 ∨ v = 2 ∨ v = 3) (H : J ck (nI t) x6 x7 0 (nI N) (nI (L + 1)) yc pb kd w cs (upd vy d v) (vp_updL fy d ck) (upd lg L (tr_ev 3 (nI d) v)) sn ss sx so) : wY_run_364 post J ck x6 x7 0 (nI t) (nI d) v (nI N) (nI L) yc pb kd w cs vy fy lg sn ss sx so := by
  have E : tr_ok 3 (nI d) v ∧ vp_nar .byte v.toInt8.toInt32 = v := by
    obtain ⟨k, hk, _, rfl⟩ := tr_v123 hv
    exact ⟨tr_evo (e := 3) (by decide) hd (by omega), tr_nb k (by omega)⟩
  unfold wY_run_364
  refine br_f (tr_v4 hv) (tr_emit hL E.1 ?_)
  dsimp only
  exact tr_y379 hd E.2 H
theorem tr_y282a (hN : N ≤ c) (hc : c ≤ 10) (ht : t < 10) (hd : d < 10) (hs : ss t = 4) (ho : so t = 0) (H : J ck (nI t) x6 x7 0 (nI N) (nI L) yc pb kd w cs (upd vy d 4) (vp_updL fy d ck) lg sn ss sx so) : wY_run_282 post J ck x5 x6 x7 0 (nI t) (nI d) (nI c) (nI N) (nI L) yc pb kd w cs vy fy lg sn ss sx so := by
  have K : wY_run_356 post J ck x6 x7 0 (nI t) (nI d) 4 (nI N) (nI L) yc pb kd w cs vy fy lg sn ss sx so := by
    unfold wY_run_356
    refine br_f (by decide) ?_
    unfold wY_run_364
    exact br_t rfl (tr_y379 hd (tr_nb 4 (by decide)) H)
  unfold wY_run_282
  rw [tr_cl ht, ho, hs]
  exact br_t (nI_le hN (by omega)) ⟨tr_in ht, nm_e ⟨tr_in ht, br_t rfl K⟩⟩
theorem tr_y282b (hN : N ≤ c) (hc : c ≤ 10) (ht : t < 10) (hd : d < 10) (hL : L < 20) (hs : ss t = 2 ∨ ss t = 3) (ho : so t = 0) (H : J ck (nI t) x6 x7 0 (nI N) (nI (L + 1)) yc pb kd w cs (upd vy d (ss t)) (vp_updL fy d ck) (upd lg L (tr_ev 3 (nI d) (ss t))) sn ss sx so) : wY_run_282 post J ck x5 x6 x7 0 (nI t) (nI d) (nI c) (nI N) (nI L) yc pb kd w cs vy fy lg sn ss sx so := by
  have K : wY_run_356 post J ck x6 x7 0 (nI t) (nI d) (ss t) (nI N) (nI L) yc pb kd w cs vy fy lg sn ss sx so := by
    unfold wY_run_356
    exact br_f (tr_v0 (Or.inr hs)) (tr_y364 hd hL (Or.inr hs) H)
  unfold wY_run_282
  rw [tr_cl ht, ho]
  exact br_t (nI_le hN (by omega)) ⟨tr_in ht, nm_e ⟨tr_in ht, br_t rfl K⟩⟩
theorem tr_y282c (hN : N ≤ c) (hc : c ≤ 10) (ht : t < 10) (hd : d < 10) (hL : L < 20) (ho : so t = 1) (hf : tr_fin (w d) (ss t) v) (hv : v = 1 ∨ v = 2 ∨ v = 3) (H : J ck (nI t) x6 x7 0 (nI N) (nI (L + 1)) yc pb kd w cs (upd vy d v) (vp_updL fy d ck) (upd lg L (tr_ev 3 (nI d) v)) sn ss sx so) : wY_run_282 post J ck x5 x6 x7 0 (nI t) (nI d) (nI c) (nI N) (nI L) yc pb kd w cs vy fy lg sn ss sx so := by
  have K := tr_y364 (post := post) hd hL hv H
  unfold wY_run_282
  rw [tr_cl ht, ho, tr_cl hd]
  refine br_t (nI_le hN (by omega)) ⟨tr_in ht, nm_e ⟨tr_in ht, br_f (by decide) ⟨tr_in hd, ?_⟩⟩⟩
  unfold wY_run_356
  rcases hf with ⟨h1, rfl⟩ | ⟨h1, ⟨h2, rfl⟩ | ⟨h2, rfl⟩⟩
  · exact br_f h1 (br_f (by decide) K)
  · exact br_t h1 (br_t h2 K)
  · exact br_t h1 (br_f h2 K)
end
/-- one verdict for both sides where the node's end is reported -/
theorem tr_exit {N L t d c : Nat} {ck yc : Int64} {pa pb kd w vx vy lg sn sx sm ss so : Nat → Int32} {cs fx fy : Nat → Int64} {x5 x6 x7 : Int32} (hN : N ≤ c) (hc : c ≤ 10) (ht : t < 10) (hd : d < 10) (hL : L < 20) (hm : tr_md (sm t) (ss t) (so t)) (h4 : ¬ ss t = 4) : ∃ v : Int32,
      (∀ (post : Int32 → SX → Prop) (J : Int32 → Int32 → Int64 → Int32 → (Nat → Int32) → (Nat → Int32) → (Nat → Int32) → (Nat → Int64) → (Nat → Int32) → (Nat → Int64) → (Nat → Int32) → (Nat → Int32) → (Nat → Int32) → (Nat → Int32) → (Nat → Int32) → Prop), J (nI t) (nI N) ck (nI (L + 1)) pa kd w cs (upd vx d v) (vp_updL fx d ck) (upd lg L (tr_ev 3 (nI d) v)) sn sx sm ss → wX_run_130 post J (nI (t + 1)) (nI t) (nI d) (nI N) ck (nI L) pa kd w cs vx fx lg sn sx sm ss) ∧
      (∀ (post : Int32 → SY → Prop) (J : Int64 → Int32 → Int32 → Int32 → Int32 → Int32 → Int32 → Int64 → (Nat → Int32) → (Nat → Int32) → (Nat → Int32) → (Nat → Int64) → (Nat → Int32) → (Nat → Int64) → (Nat → Int32) → (Nat → Int32) → (Nat → Int32) → (Nat → Int32) → (Nat → Int32) → Prop), J ck (nI t) x6 x7 0 (nI N) (nI (L + 1)) yc pb kd w cs (upd vy d v) (vp_updL fy d ck) (upd lg L (tr_ev 3 (nI d) v)) sn ss sx so → wY_run_282 post J ck x5 x6 x7 0 (nI t) (nI d) (nI c) (nI N) (nI L) yc pb kd w cs vy fy lg sn ss sx so) := by
  rcases hm with ⟨_, a, _⟩ | ⟨a, b, e⟩ | ⟨a, b, e⟩
  · exact absurd a h4
  · exact ⟨ss t, fun post J H => tr_x130b ht hd hL a H, fun post J H => tr_y282b hN hc ht hd hL b e H⟩
  · obtain ⟨v, hf, hv⟩ := tr_fin_ex (w d) (ss t) b
    exact ⟨v, fun post J H => tr_x130c ht hd hL a hf H, fun post J H => tr_y282c hN hc ht hd hL e hf hv H⟩
end
section
/-- the next child, or the end -/
theorem tr_scan (pa : Nat → Int32) (N : Nat) (x : Int32) : ∀ k a, a + k = N → ∃ c, a ≤ c ∧ c ≤ N ∧ (c < N → pa c = x) ∧ ∀ j, a ≤ j → j < c → ¬ pa j = x := by
  intro k
  induction k with
  | zero =>
    intro a ha
    exact ⟨a, by omega, by omega, fun h => absurd h (by omega), fun j h1 h2 => absurd h2 (by omega)⟩
  | succ k ih =>
    intro a ha
    by_cases h : pa a = x
    · exact ⟨a, by omega, by omega, fun _ => h, fun j h1 h2 => absurd h2 (by omega)⟩
    · obtain ⟨c, h1, h2, h3, h4⟩ := ih (a + 1) (by omega)
      refine ⟨c, by omega, h2, h3, fun j h5 h6 => ?_⟩
      by_cases e : j = a
      · rw [e]; exact h
      · exact h4 j (by omega) h6
section
variable {N c : Nat} {x : Int32}
theorem tr_x53 {post : Int32 → SX → Prop} {J : Int32 → Int32 → Int64 → Int32 → (Nat → Int32) → (Nat → Int32) → (Nat → Int32) → (Nat → Int64) → (Nat → Int32) → (Nat → Int64) → (Nat → Int32) → (Nat → Int32) → (Nat → Int32) → (Nat → Int32) → (Nat → Int32) → Prop} {x3 x4 l : Int32} {ck : Int64} {pa kd w vx lg sn sx sm ss : Nat → Int32} {cs fx : Nat → Int64} (hN : N ≤ 10) (hc : c ≤ N) (hx : c < N → pa c = x) (K : wX_run_83 post J x3 x4 x (nI c) (nI N) ck l pa kd w cs vx fx lg sn sx sm ss) :
    ∀ k a, a + k = c → (∀ j, a ≤ j → j < c → ¬ pa j = x) → wX_run_53 post J x3 x4 x (nI N) ck l pa kd w cs vx fx lg sn sx sm ss (k + 1) (nI a) := by
  intro k
  induction k with
  | zero =>
    intro a ha _
    have e : a = c := by omega
    subst e
    by_cases h : a < N
    · have hp : pa (nI a).toNatClampNeg = x := by rw [tr_cl (by omega)]; exact hx h
      exact br_f (nI_ge h (by omega)) ⟨tr_in (by omega), br_t hp K⟩
    · exact br_t (nI_le (by omega) (by omega)) K
  | succ k ih =>
    intro a ha hj
    have hp : ¬ pa (nI a).toNatClampNeg = x := by rw [tr_cl (by omega)]; exact hj a (by omega) (by omega)
    exact br_f (nI_ge (by omega) (by omega)) ⟨tr_in (by omega), br_f hp (nm_r (e' := nI (a + 1)) (nI_1 a) (ih (a + 1) (by omega) (fun j h1 h2 => hj j (by omega) h2)))⟩
theorem tr_y255 {post : Int32 → SY → Prop} {J : Int64 → Int32 → Int32 → Int32 → Int32 → Int32 → Int32 → Int64 → (Nat → Int32) → (Nat → Int32) → (Nat → Int32) → (Nat → Int64) → (Nat → Int32) → (Nat → Int64) → (Nat → Int32) → (Nat → Int32) → (Nat → Int32) → (Nat → Int32) → (Nat → Int32) → Prop} {x5 x6 x7 x8 x9 l : Int32} {ck yc : Int64} {pb kd w vy lg sn sx ss so : Nat → Int32} {cs fy : Nat → Int64} (hN : N ≤ 10) (hc : c ≤ N) (hx : c < N → pb c = x) (K : wY_run_282 post J ck x5 x6 x7 x8 x9 x (nI c) (nI N) l yc pb kd w cs vy fy lg sn ss sx so) :
    ∀ k a, a + k = c → (∀ j, a ≤ j → j < c → ¬ pb j = x) → wY_run_255 post J ck x5 x6 x7 x8 x9 x (nI N) l yc pb kd w cs vy fy lg sn ss sx so (k + 1) (nI a) := by
  intro k
  induction k with
  | zero =>
    intro a ha _
    have e : a = c := by omega
    subst e
    by_cases h : a < N
    · have hp : pb (nI a).toNatClampNeg = x := by rw [tr_cl (by omega)]; exact hx h
      exact br_f (nI_ge h (by omega)) ⟨tr_in (by omega), br_t hp K⟩
    · exact br_t (nI_le (by omega) (by omega)) K
  | succ k ih =>
    intro a ha hj
    have hp : ¬ pb (nI a).toNatClampNeg = x := by rw [tr_cl (by omega)]; exact hj a (by omega) (by omega)
    exact br_f (nI_ge (by omega) (by omega)) ⟨tr_in (by omega), br_f hp (nm_r (e' := nI (a + 1)) (nI_1 a) (ih (a + 1) (by omega) (fun j h1 h2 => hj j (by omega) h2)))⟩
end
section
variable {N t d a c n : Nat} {ck yc : Int64} {pa pb kd w vx vy lg sn sx sm ss so : Nat → Int32} {cs fx fy : Nat → Int64}
/-- the component's loop head with a node on the stack -/
theorem tr_x26 {post : Int32 → SX → Prop} {l : Int32} (ht : t < 10) (hN : N ≤ 10) (hc : c ≤ N) (hac : a ≤ c) (hx : c < N → pa c = nI d) (hj : ∀ j, a ≤ j → j < c → ¬ pa j = nI d) (e1 : sn t = nI d) (e2 : sx t = nI a) (K : wX_run_83 post (wX_run_26 post n) (nI (t + 1)) (nI t) (nI d) (nI c) (nI N) ck l pa kd w cs vx fx lg sn sx sm ss) : wX_run_26 post (n + 1) (nI (t + 1)) (nI N) ck l pa kd w cs vx fx lg sn sx sm ss := by
  have M := tr_x53 hN hc hx K (c - a) a (by omega) hj
  refine br_f (nI_nle (by omega) (by omega)) (nm_r (e' := nI t) (nI_pred t) ⟨tr_in ht, nm_r (e' := nI d) ?_ ⟨tr_in ht, nm_r (e' := nI a) ?_ ⟨_, M⟩⟩⟩)
  · rw [tr_cl ht]; exact e1
  · rw [tr_cl ht]; exact e2
/-- the reference's loop head with a node on the stack -/
theorem tr_y32 {post : Int32 → SY → Prop} {l x6 x7 : Int32} (ht : t < 10) (hN : N ≤ 10) (hc : c ≤ N) (hac : a ≤ c) (hx : c < N → pb c = nI d) (hj : ∀ j, a ≤ j → j < c → ¬ pb j = nI d) (e1 : sn t = nI d) (e2 : sx t = nI a) (K : wY_run_282 post (wY_run_32 post n) ck (nI (t + 1)) x6 x7 0 (nI t) (nI d) (nI c) (nI N) l yc pb kd w cs vy fy lg sn ss sx so) : wY_run_32 post (n + 1) ck (nI (t + 1)) x6 x7 0 (nI N) l yc pb kd w cs vy fy lg sn ss sx so := by
  have M := tr_y255 hN hc hx K (c - a) a (by omega) hj
  have Q : wY_run_42 post (wY_run_32 post n) ck (nI (t + 1)) x6 x7 0 (nI N) l yc pb kd w cs vy fy lg sn ss sx so := by
    unfold wY_run_42
    refine br_t rfl (nm_r (e' := nI t) (nI_pred t) ⟨tr_in ht, nm_r (e' := nI d) ?_ ⟨tr_in ht, nm_r (e' := nI a) ?_ ⟨_, M⟩⟩⟩)
    · rw [tr_cl ht]; exact e1
    · rw [tr_cl ht]; exact e2
  exact br_t rfl (br_f (nI_nle (by omega) (by omega)) Q)
/-- a child found: the component goes in -/
theorem tr_x83 {post : Int32 → SX → Prop} {l l' n1 : Int32} {ck' : Int64} {pa' kd' w' vx' lg' sn' sx' sm' ss' : Nat → Int32} {cs' fx' : Nat → Int64} (ht : t + 1 < 10) (hN : N ≤ 10) (hc : c < N)
    (HX : ∀ post' : SX → Prop, post' (n1, ck', l', pa', kd', w', cs', vx', fx', lg', sn', sx', sm', ss') → wpX_enter post' (nI N, ck, l, pa, kd, w, cs, vx, fx, lg, sn, upd sx t (nI (c + 1)), sm, ss) (nI (t + 1)) (nI c) (ss t))
    (K : wX_run_26 post n (nI (t + 2)) n1 ck' l' pa' kd' w' cs' vx' fx' lg' sn' sx' sm' ss') : wX_run_83 post (wX_run_26 post n) (nI (t + 1)) (nI t) (nI d) (nI c) (nI N) ck l pa kd w cs vx fx lg sn sx sm ss := by
  unfold wX_run_83
  rw [tr_cl (p := t) (by omega), nI_1 c]
  refine br_f (nI_ge hc (by omega)) (br_f (nI_ge (b := 10) ht (by decide)) ⟨tr_in (by omega), nm_e ⟨tr_in (by omega), HX _ ?_⟩⟩)
  dsimp only
  exact nm_r (e' := nI (t + 2)) (nI_1 (t + 1)) K
/-- a child found: the reference goes in -/
theorem tr_y282 {post : Int32 → SY → Prop} {l x6 x7 : Int32} {J : Int64 → Int32 → Int32 → Int32 → Int32 → Int32 → Int32 → Int64 → (Nat → Int32) → (Nat → Int32) → (Nat → Int32) → (Nat → Int64) → (Nat → Int32) → (Nat → Int64) → (Nat → Int32) → (Nat → Int32) → (Nat → Int32) → (Nat → Int32) → (Nat → Int32) → Prop} (ht : t < 10) (hN : N ≤ 10) (hc : c < N) (K : J ck (nI (t + 1)) (nI c) (ss t) 1 (nI N) l yc pb kd w cs vy fy lg sn ss (upd sx t (nI (c + 1))) so) : wY_run_282 post J ck (nI (t + 1)) x6 x7 0 (nI t) (nI d) (nI c) (nI N) l yc pb kd w cs vy fy lg sn ss sx so := by
  unfold wY_run_282
  rw [tr_cl ht, nI_1 c]
  exact br_f (nI_ge hc (by omega)) ⟨tr_in ht, nm_e ⟨tr_in ht, nm_e K⟩⟩
end
end
section
/-- how many of the first n are marked -/
def tr_cnt (V : Nat → Bool) : Nat → Nat
  | 0 => 0
  | n + 1 => tr_cnt V n + (if V n = true then 1 else 0)
def tr_set (V : Nat → Bool) (c : Nat) : Nat → Bool := fun j => if j = c then true else V j
def tr_u (f : Nat → Nat) (k x : Nat) : Nat → Nat := fun j => if j = k then x else f j
theorem tr_us {f : Nat → Nat} {k x : Nat} : tr_u f k x k = x := if_pos rfl
theorem tr_un {f : Nat → Nat} {k x j : Nat} (h : j ≠ k) : tr_u f k x j = f j := if_neg h
theorem tr_ss {V : Nat → Bool} {c : Nat} : tr_set V c c = true := if_pos rfl
theorem tr_sn {V : Nat → Bool} {c j : Nat} (h : j ≠ c) : tr_set V c j = V j := if_neg h
theorem tr_sk {V : Nat → Bool} {c j : Nat} (h : V j = true) : tr_set V c j = true := by
  by_cases e : j = c
  · rw [e]; exact tr_ss
  · rw [tr_sn e]; exact h
theorem tr_cnt_le (V : Nat → Bool) : ∀ n, tr_cnt V n ≤ n := by
  intro n
  induction n with
  | zero => exact Nat.le_refl 0
  | succ n ih =>
    show tr_cnt V n + (if V n = true then 1 else 0) ≤ n + 1
    by_cases h : V n = true
    · rw [if_pos h]; omega
    · rw [if_neg h]; omega
theorem tr_cnt_far (V : Nat → Bool) (c : Nat) : ∀ n, n ≤ c → tr_cnt (tr_set V c) n = tr_cnt V n := by
  intro n
  induction n with
  | zero => intro _; rfl
  | succ n ih =>
    intro h
    show tr_cnt (tr_set V c) n + (if tr_set V c n = true then 1 else 0) = tr_cnt V n + (if V n = true then 1 else 0)
    rw [ih (by omega), tr_sn (by omega)]
theorem tr_cnt_new (V : Nat → Bool) (c : Nat) (hc : ¬ V c = true) : ∀ n, c < n → tr_cnt (tr_set V c) n = tr_cnt V n + 1 := by
  intro n
  induction n with
  | zero => intro h; exact absurd h (by omega)
  | succ n ih =>
    intro h
    show tr_cnt (tr_set V c) n + (if tr_set V c n = true then 1 else 0) = tr_cnt V n + (if V n = true then 1 else 0) + 1
    by_cases e : n = c
    · subst e
      rw [tr_cnt_far V n n (by omega), if_pos tr_ss, if_neg hc]
    · rw [ih (by omega), tr_sn e]; omega
/-- the stack's shape -/
def tr_A (N sp : Nat) (sn sx : Nat → Int32) (nd nx : Nat → Nat) (V : Nat → Bool) : Prop :=
  (∀ p, p < sp → sn p = nI (nd p) ∧ sx p = nI (nx p) ∧ nd p < nx p ∧ nx p ≤ N ∧ p ≤ nd p ∧ V (nd p) = true) ∧ (∀ p q, p < q → q < sp → nd p < nd q) ∧ (0 < sp → nd 0 = 0)
/-- modes, verdicts, finishes -/
def tr_B (N sp : Nat) (ck : Int64) (vx vy : Nat → Int32) (fx fy : Nat → Int64) (sm ss so : Nat → Int32) (nd : Nat → Nat) : Prop :=
  (∀ p, p < sp → tr_md (sm p) (ss p) (so p)) ∧ (∀ p q, p ≤ q → q < sp → ss p = 4 → ss q = 4) ∧ (∀ p, p < sp → ss p = 4 → vx (nd p) = 4 ∧ fx (nd p) = ck) ∧ (∀ j, (∀ p, p < sp → ss p = 4 → nd p ≠ j) → vx j = vy j ∧ fx j = fy j) ∧ (∀ j, N ≤ j → vx j = 0 ∧ fx j = 0) ∧ (sp = 0 → fy 0 = ck)
/-- who was visited, and the count of events -/
def tr_C (N sp L : Nat) (pa : Nat → Int32) (nd nx : Nat → Nat) (V : Nat → Bool) : Prop :=
  (∀ v, V v = true → v < N ∧ (v = 0 ∨ ∃ a, V a = true ∧ pa v = nI a)) ∧ (∀ v p, V v = true → p < sp → pa v = nI (nd p) → v < nx p) ∧ L + sp ≤ 2 * tr_cnt V 10
section
variable {N t L c : Nat} {ck ck' : Int64} {pa vx vy vx' sn sx sm ss so : Nat → Int32} {fx fy fx' : Nat → Int64} {nd nx : Nat → Nat} {V : Nat → Bool} {md s ow v : Int32}
theorem tr_inj {a b : Nat} (ha : a < 10) (hb : b < 10) (h : nI a = nI b) : a = b := (nI_eq (by omega) (by omega)).mp h
/-- a child found was not visited before -/
theorem tr_new (hA : tr_A N (t + 1) sn sx nd nx V) (hC : tr_C N (t + 1) L pa nd nx V) (hac : nx t ≤ c) (hx : pa c = nI (nd t)) : ¬ V c = true := by
  intro h
  have := hC.2.1 c t h (by omega) hx
  omega
theorem tr_A_child (hA : tr_A N (t + 1) sn sx nd nx V) (hac : nx t ≤ c) (hc : c < N) : tr_A N (t + 2) (upd sn (t + 1) (nI c)) (upd (upd sx t (nI (c + 1))) (t + 1) (nI (c + 1))) (tr_u nd (t + 1) c) (tr_u (tr_u nx t (c + 1)) (t + 1) (c + 1)) (tr_set V c) := by
  obtain ⟨h1, h2, h3⟩ := hA
  have ht := h1 t (by omega)
  refine ⟨fun p hp => ?_, fun p q hpq hq => ?_, fun _ => ?_⟩
  · by_cases e : p = t + 1
    · subst e
      rw [pk_us, pk_us, tr_us, tr_us]
      exact ⟨rfl, rfl, by omega, by omega, by omega, tr_ss⟩
    · rw [pk_un e, pk_un e, tr_un e, tr_un e]
      by_cases e2 : p = t
      · subst e2
        rw [pk_us, tr_us]
        exact ⟨ht.1, rfl, by omega, by omega, ht.2.2.2.2.1, tr_sk ht.2.2.2.2.2⟩
      · rw [pk_un e2, tr_un e2]
        have g := h1 p (by omega)
        exact ⟨g.1, g.2.1, g.2.2.1, g.2.2.2.1, g.2.2.2.2.1, tr_sk g.2.2.2.2.2⟩
  · rw [tr_un (f := nd) (j := p) (by omega)]
    by_cases e : q = t + 1
    · subst e
      rw [tr_us]
      by_cases e2 : p = t
      · subst e2; omega
      · have := h2 p t (by omega) (by omega)
        omega
    · rw [tr_un e]
      exact h2 p q hpq (by omega)
  · rw [tr_un (by omega)]
    exact h3 (by omega)
theorem tr_C_child (hN : N ≤ 10) (hA : tr_A N (t + 1) sn sx nd nx V) (hC : tr_C N (t + 1) L pa nd nx V) (hac : nx t ≤ c) (hc : c < N) (hx : pa c = nI (nd t)) : tr_C N (t + 2) (L + 1) pa (tr_u nd (t + 1) c) (tr_u (tr_u nx t (c + 1)) (t + 1) (c + 1)) (tr_set V c) := by
  have hn := tr_new hA hC hac hx
  have hcn := tr_cnt_new V c hn 10 (by omega)
  obtain ⟨h1, h2, h3⟩ := hA
  obtain ⟨g1, g2, g3⟩ := hC
  have ht := h1 t (by omega)
  refine ⟨fun v hv => ?_, fun v p hv hp hpa => ?_, by omega⟩
  · by_cases e : v = c
    · subst e
      exact ⟨hc, Or.inr ⟨nd t, tr_sk ht.2.2.2.2.2, hx⟩⟩
    · rw [tr_sn e] at hv
      obtain ⟨a1, a2⟩ := g1 v hv
      refine ⟨a1, ?_⟩
      rcases a2 with a2 | ⟨a, b1, b2⟩
      · exact Or.inl a2
      · exact Or.inr ⟨a, tr_sk b1, b2⟩
  · by_cases e : p = t + 1
    · subst e
      rw [tr_us] at hpa ⊢
      by_cases e2 : v = c
      · omega
      · rw [tr_sn e2] at hv
        obtain ⟨a1, a2⟩ := g1 v hv
        rcases a2 with a2 | ⟨a, b1, b2⟩
        · omega
        · have := (g1 a b1).1
          have q : a = c := tr_inj (by omega) (by omega) (b2.symm.trans hpa)
          rw [q] at b1
          exact absurd b1 hn
    · rw [tr_un e] at hpa ⊢
      by_cases e2 : p = t
      · subst e2
        rw [tr_us]
        by_cases e3 : v = c
        · omega
        · rw [tr_sn e3] at hv
          have := g2 v p hv (by omega) hpa
          omega
      · rw [tr_un e2]
        by_cases e3 : v = c
        · subst e3
          have o := h2 p t (by omega) (by omega)
          have q : nd p = nd t := tr_inj (by omega) (by omega) (hpa.symm.trans hx)
          omega
        · rw [tr_sn e3] at hv
          exact g2 v p hv (by omega) hpa
theorem tr_B_child (hA : tr_A N (t + 1) sn sx nd nx V) (hB : tr_B N (t + 1) ck vx vy fx fy sm ss so nd) (hac : nx t ≤ c) (hc : c < N) (hE : tr_Ent ck (ss t) c vx fx ck' md s ow vx' fx') : tr_B N (t + 2) ck' vx' vy fx' fy (upd sm (t + 1) md) (upd ss (t + 1) s) (upd so (t + 1) ow) (tr_u nd (t + 1) c) := by
  obtain ⟨h1, h2, h3⟩ := hA
  obtain ⟨g1, g2, g3, g4, g5, g6⟩ := hB
  have ht := h1 t (by omega)
  have hne : ∀ p, p < t + 1 → nd p ≠ c := by
    intro p hp
    by_cases e : p = t
    · subst e; omega
    · have := h2 p t (by omega) (by omega)
      omega
  have h44 : ∀ p, p < t + 1 → ss p = 4 → s = 4 ∧ ck' = ck ∧ vx' = upd vx c 4 ∧ fx' = vp_updL fx c ck := by
    intro p hp h
    have h4 := g2 p t (by omega) (by omega) h
    rcases hE with a | a | a
    · exact ⟨a.2.1, a.2.2.2.1, a.2.2.2.2.1, a.2.2.2.2.2⟩
    · exact absurd h4 a.2.2.2.2.2.2.1
    · rw [a.2.1] at h4
      exact absurd h4 (by decide)
  refine ⟨fun p hp => ?_, fun p q hpq hq hs => ?_, fun p hp hs => ?_, fun j hj => ?_, fun j hj => ?_, fun h => absurd h (by omega)⟩
  · by_cases e : p = t + 1
    · subst e
      rw [pk_us, pk_us, pk_us]
      rcases hE with a | a | a
      · exact Or.inl ⟨a.1, a.2.1, a.2.2.1⟩
      · exact Or.inr (Or.inl ⟨a.1, a.2.1, a.2.2.1⟩)
      · exact Or.inr (Or.inr ⟨a.1, a.2.2.1, a.2.2.2.1⟩)
    · rw [pk_un e, pk_un e, pk_un e]
      exact g1 p (by omega)
  · by_cases e : q = t + 1
    · subst e
      by_cases e2 : p = t + 1
      · subst e2; exact hs
      · rw [pk_us]
        rw [pk_un e2] at hs
        exact (h44 p (by omega) hs).1
    · rw [pk_un e]
      rw [pk_un (by omega)] at hs
      exact g2 p q hpq (by omega) hs
  · by_cases e : p = t + 1
    · subst e
      rw [pk_us] at hs
      rw [tr_us]
      rcases hE with a | a | a
      · rw [a.2.2.2.2.1, a.2.2.2.2.2, a.2.2.2.1, pk_us, pk_uLs]
        exact ⟨rfl, rfl⟩
      · rcases a.2.1 with b | b <;> rw [b] at hs <;> exact absurd hs (by decide)
      · rcases a.2.2.1 with b | b | b <;> rw [b] at hs <;> exact absurd hs (by decide)
    · rw [pk_un e] at hs
      rw [tr_un e]
      obtain ⟨_, a2, a3, a4⟩ := h44 p (by omega) hs
      rw [a2, a3, a4, pk_un (hne p (by omega)), pk_uLn (hne p (by omega))]
      exact g3 p (by omega) hs
  · have old : vx j = vy j ∧ fx j = fy j := by
      refine g4 j fun p hp hs => ?_
      have := hj p (by omega)
      rw [pk_un (by omega), tr_un (by omega)] at this
      exact this hs
    rcases hE with a | a | a
    · have hjc : j ≠ c := by
        have := hj (t + 1) (by omega)
        rw [pk_us, tr_us] at this
        exact fun q => this a.2.1 q.symm
      rw [a.2.2.2.2.1, a.2.2.2.2.2, pk_un hjc, pk_uLn hjc]
      exact old
    · rw [a.2.2.2.2.1, a.2.2.2.2.2.1]
      exact old
    · rw [a.2.2.2.2.1, a.2.2.2.2.2]
      exact old
  · have old := g5 j hj
    rcases hE with a | a | a
    · rw [a.2.2.2.2.1, a.2.2.2.2.2, pk_un (by omega), pk_uLn (by omega)]
      exact old
    · rw [a.2.2.2.2.1, a.2.2.2.2.2.1]
      exact old
    · rw [a.2.2.2.2.1, a.2.2.2.2.2]
      exact old
theorem tr_A_exit (hA : tr_A N (t + 1) sn sx nd nx V) : tr_A N t sn sx nd nx V :=
  ⟨fun p hp => hA.1 p (by omega), fun p q a b => hA.2.1 p q a (by omega), fun _ => hA.2.2 (by omega)⟩
theorem tr_C_exit {L' : Nat} (hL : L' ≤ L + 1) (hC : tr_C N (t + 1) L pa nd nx V) : tr_C N t L' pa nd nx V :=
  ⟨hC.1, fun v p a b => hC.2.1 v p a (by omega), by have := hC.2.2; omega⟩
/-- the end of a skipped node: the reference writes what the component wrote at its start -/
theorem tr_B_exit4 (hA : tr_A N (t + 1) sn sx nd nx V) (hB : tr_B N (t + 1) ck vx vy fx fy sm ss so nd) (hs : ss t = 4) : tr_B N t ck vx (upd vy (nd t) 4) fx (vp_updL fy (nd t) ck) sm ss so nd := by
  obtain ⟨h1, h2, h3⟩ := hA
  obtain ⟨g1, g2, g3, g4, g5, g6⟩ := hB
  refine ⟨fun p hp => g1 p (by omega), fun p q a b => g2 p q a (by omega), fun p hp => g3 p (by omega), fun j hj => ?_, g5, fun h => ?_⟩
  · by_cases e : j = nd t
    · subst e
      rw [pk_us, pk_uLs]
      exact g3 t (by omega) hs
    · rw [pk_un e, pk_uLn e]
      refine g4 j fun p hp hq => ?_
      by_cases e2 : p = t
      · subst e2; exact fun q => e q.symm
      · exact hj p (by omega) hq
  · subst h
    rw [h3 (by omega)]
    exact pk_uLs
/-- the end of another node: both write -/
theorem tr_B_exit (hA : tr_A N (t + 1) sn sx nd nx V) (hB : tr_B N (t + 1) ck vx vy fx fy sm ss so nd) (hs : ¬ ss t = 4) : tr_B N t ck (upd vx (nd t) v) (upd vy (nd t) v) (vp_updL fx (nd t) ck) (vp_updL fy (nd t) ck) sm ss so nd := by
  obtain ⟨h1, h2, h3⟩ := hA
  obtain ⟨g1, g2, g3, g4, g5, g6⟩ := hB
  have ht := h1 t (by omega)
  refine ⟨fun p hp => g1 p (by omega), fun p q a b => g2 p q a (by omega), fun p hp hq => absurd (g2 p t (by omega) (by omega) hq) hs, fun j hj => ?_, fun j hj => ?_, fun h => ?_⟩
  · by_cases e : j = nd t
    · subst e
      rw [pk_us, pk_us, pk_uLs, pk_uLs]
      exact ⟨rfl, rfl⟩
    · rw [pk_un e, pk_un e, pk_uLn e, pk_uLn e]
      refine g4 j fun p hp hq => ?_
      by_cases e2 : p = t
      · subst e2; exact absurd hq hs
      · exact hj p (by omega) hq
  · rw [pk_un (by omega), pk_uLn (by omega)]
    exact g5 j hj
  · subst h
    rw [h3 (by omega)]
    exact pk_uLs
/-- the start: the root alone -/
theorem tr_A_0 (hN : 1 ≤ N) : tr_A N 1 (upd sn 0 (nI 0)) (upd sx 0 (nI 1)) (fun _ => 0) (fun _ => 1) (tr_set (fun _ => false) 0) := by
  refine ⟨fun p hp => ?_, fun p q a b => absurd b (by omega), fun _ => rfl⟩
  have e : p = 0 := by omega
  subst e
  rw [pk_us, pk_us]
  exact ⟨rfl, rfl, by decide, hN, by decide, tr_ss⟩
theorem tr_C_0 (hN : 1 ≤ N) : tr_C N 1 1 pa (fun _ => 0) (fun _ => 1) (tr_set (fun _ => false) 0) := by
  have z : ∀ v, tr_set (fun _ => false) 0 v = true → v = 0 := by
    intro v hv
    by_cases e : v = 0
    · exact e
    · rw [tr_sn e] at hv
      exact absurd hv (by decide)
  refine ⟨fun v hv => ?_, fun v p hv hp _ => ?_, by decide +kernel⟩
  · have := z v hv
    exact ⟨by omega, Or.inl this⟩
  · have := z v hv
    show v < 1
    omega
theorem tr_B_0 (hN : 1 ≤ N) (hz : ∀ j, N ≤ j → vx j = 0 ∧ fx j = 0) (hE : tr_Ent ck 0 0 vx fx ck' md s ow vx' fx') : tr_B N 1 ck' vx' vx fx' fx (upd sm 0 md) (upd ss 0 s) (upd so 0 ow) (fun _ => 0) := by
  refine ⟨fun p hp => ?_, fun p q hpq hq hs => ?_, fun p hp hs => ?_, fun j hj => ?_, fun j hj => ?_, fun h => absurd h (by omega)⟩
  · have e : p = 0 := by omega
    subst e
    rw [pk_us, pk_us, pk_us]
    rcases hE with a | a | a
    · exact Or.inl ⟨a.1, a.2.1, a.2.2.1⟩
    · exact Or.inr (Or.inl ⟨a.1, a.2.1, a.2.2.1⟩)
    · exact Or.inr (Or.inr ⟨a.1, a.2.2.1, a.2.2.2.1⟩)
  · have e : p = q := by omega
    subst e
    exact hs
  · have e : p = 0 := by omega
    subst e
    rw [pk_us] at hs
    rcases hE with a | a | a
    · rw [a.2.2.2.2.1, a.2.2.2.2.2, a.2.2.2.1, pk_us, pk_uLs]
      exact ⟨rfl, rfl⟩
    · rcases a.2.1 with b | b <;> rw [b] at hs <;> exact absurd hs (by decide)
    · rcases a.2.2.1 with b | b | b <;> rw [b] at hs <;> exact absurd hs (by decide)
  · rcases hE with a | a | a
    · have hjc : j ≠ 0 := by
        have := hj 0 (by omega)
        rw [pk_us] at this
        exact fun q => this a.2.1 q.symm
      rw [a.2.2.2.2.1, a.2.2.2.2.2, pk_un hjc, pk_uLn hjc]
      exact ⟨rfl, rfl⟩
    · rw [a.2.2.2.2.1, a.2.2.2.2.2.1]
      exact ⟨rfl, rfl⟩
    · rw [a.2.2.2.2.1, a.2.2.2.2.2]
      exact ⟨rfl, rfl⟩
  · have old := hz j hj
    rcases hE with a | a | a
    · rw [a.2.2.2.2.1, a.2.2.2.2.2, pk_un (by omega), pk_uLn (by omega)]
      exact old
    · rw [a.2.2.2.2.1, a.2.2.2.2.2.1]
      exact old
    · rw [a.2.2.2.2.1, a.2.2.2.2.2]
      exact old
end
end
section
/-- one outcome of both loops -/
def tr_Out (N sp L : Nat) (ck yc : Int64) (pa pb kd w : Nat → Int32) (cs : Nat → Int64) (vx vy : Nat → Int32) (fx fy : Nat → Int64) (lg sn sx sm ss so : Nat → Int32) (x6 x7 : Int32) : Prop :=
  ∃ (L' : Nat) (ck' : Int64) (ve : Nat → Int32) (fi : Nat → Int64) (lg' sn' sx' sm' ss' so' : Nat → Int32), L' ≤ 20 ∧ (∀ j, N ≤ j → ve j = 0 ∧ fi j = 0) ∧
    (∃ n, ∀ post : Int32 → SX → Prop, post (nI L') (nI N, ck', nI L', pa, kd, w, cs, ve, fi, lg', sn', sx', sm', ss') → wX_run_26 post n (nI sp) (nI N) ck (nI L) pa kd w cs vx fx lg sn sx sm ss) ∧
    (∃ n, ∀ post : Int32 → SY → Prop, post (nI L') (nI N, nI L', ck', pb, kd, w, cs, ve, fi, lg', sn', ss', sx', so') → wY_run_32 post n ck (nI sp) x6 x7 0 (nI N) (nI L) yc pb kd w cs vy fy lg sn ss sx so)
section
variable {N t L c : Nat} {ck ck' yc : Int64} {pa pb kd w vx vy vx' lg sn sx sm ss so : Nat → Int32} {cs fx fy fx' : Nat → Int64} {nd nx : Nat → Nat} {V : Nat → Bool} {x6 x7 : Int32}
theorem tr_Out_0 (hB : tr_B N 0 ck vx vy fx fy sm ss so nd) (hC : tr_C N 0 L pa nd nx V) : tr_Out N 0 L ck yc pa pb kd w cs vx vy fx fy lg sn sx sm ss so x6 x7 := by
  obtain ⟨_, _, _, g4, g5, g6⟩ := hB
  have e : ∀ j, vx j = vy j ∧ fx j = fy j := fun j => g4 j (fun p hp => absurd hp (by omega))
  have e1 : vx = vy := funext fun j => (e j).1
  have e2 : fx = fy := funext fun j => (e j).2
  subst e1 e2
  have l1 := tr_cnt_le V 10
  have l2 := hC.2.2
  have z : nI 0 ≤ 0 := by decide +kernel
  refine ⟨L, ck, vx, fx, lg, sn, sx, sm, ss, so, by omega, g5, ⟨1, fun post H => ?_⟩, ⟨1, fun post H => ?_⟩⟩
  · exact br_t z H
  · exact br_t rfl (br_t z (nm_r (e' := ck) (g6 rfl) H))
/-- the exit of the top node where the component reports nothing -/
theorem tr_Out_exit4 (hN : N ≤ 10) (hNc : N ≤ c) (hcN : c ≤ N) (hac : nx t ≤ c) (hA : tr_A N (t + 1) sn sx nd nx V) (hB : tr_B N (t + 1) ck vx vy fx fy sm ss so nd) (hs : ss t = 4) (hpb : ∀ j, 1 ≤ j → pb j = pa j) (hj : ∀ j, nx t ≤ j → j < c → ¬ pa j = nI (nd t))
    (K : tr_Out N t L ck yc pa pb kd w cs vx (upd vy (nd t) 4) fx (vp_updL fy (nd t) ck) lg sn sx sm ss so x6 x7) : tr_Out N (t + 1) L ck yc pa pb kd w cs vx vy fx fy lg sn sx sm ss so x6 x7 := by
  have ht := hA.1 t (by omega)
  have hm := hB.1 t (by omega)
  have hm0 : sm t = 0 ∧ so t = 0 := by
    rcases hm with a | a | a
    · exact ⟨a.1, a.2.2⟩
    · rcases a.2.1 with b | b <;> rw [b] at hs <;> exact absurd hs (by decide)
    · rcases a.2.1 with b | b | b <;> rw [b] at hs <;> exact absurd hs (by decide)
  have hjb : ∀ j, nx t ≤ j → j < c → ¬ pb j = nI (nd t) := fun j a b => by rw [hpb j (by omega)]; exact hj j a b
  obtain ⟨L', ck1, ve, fi, lg', sn', sx', sm', ss', so', k1, k2, ⟨n, kx⟩, ⟨m, ky⟩⟩ := K
  refine ⟨L', ck1, ve, fi, lg', sn', sx', sm', ss', so', k1, k2, ⟨n + 1, fun post H => ?_⟩, ⟨m + 1, fun post H => ?_⟩⟩
  · refine tr_x26 (by omega) hN hcN hac (fun q => absurd q (by omega)) hj ht.1 ht.2.1 ?_
    unfold wX_run_83
    exact br_t (nI_le hNc (by omega)) (tr_x130a (by omega) hm0.1 (kx post H))
  · refine tr_y32 (by omega) hN hcN hac (fun q => absurd q (by omega)) hjb ht.1 ht.2.1 ?_
    exact tr_y282a hNc (by omega) (by omega) (by omega) hs hm0.2 (ky post H)
/-- the exit of the top node with a report -/
theorem tr_Out_exit (hN : N ≤ 10) (hNc : N ≤ c) (hcN : c ≤ N) (hac : nx t ≤ c) (hL : L < 20) (hA : tr_A N (t + 1) sn sx nd nx V) (hB : tr_B N (t + 1) ck vx vy fx fy sm ss so nd) (hs : ¬ ss t = 4) (hpb : ∀ j, 1 ≤ j → pb j = pa j) (hj : ∀ j, nx t ≤ j → j < c → ¬ pa j = nI (nd t))
    (K : ∀ (v : Int32) (z : Int32), tr_Out N t (L + 1) ck yc pa pb kd w cs (upd vx (nd t) v) (upd vy (nd t) v) (vp_updL fx (nd t) ck) (vp_updL fy (nd t) ck) (upd lg L z) sn sx sm ss so x6 x7) : tr_Out N (t + 1) L ck yc pa pb kd w cs vx vy fx fy lg sn sx sm ss so x6 x7 := by
  have ht := hA.1 t (by omega)
  have hm := hB.1 t (by omega)
  have hjb : ∀ j, nx t ≤ j → j < c → ¬ pb j = nI (nd t) := fun j a b => by rw [hpb j (by omega)]; exact hj j a b
  obtain ⟨v, HX, HY⟩ := tr_exit (N := N) (L := L) (t := t) (d := nd t) (c := c) (ck := ck) (yc := yc) (pa := pa) (pb := pb) (kd := kd) (w := w) (vx := vx) (vy := vy) (lg := lg) (sn := sn) (sx := sx) (sm := sm) (ss := ss) (so := so) (cs := cs) (fx := fx) (fy := fy) (x5 := nI (t + 1)) (x6 := x6) (x7 := x7) hNc (by omega) (by omega) (by omega) hL hm hs
  obtain ⟨L', ck1, ve, fi, lg', sn', sx', sm', ss', so', k1, k2, ⟨n, kx⟩, ⟨m, ky⟩⟩ := K v (tr_ev 3 (nI (nd t)) v)
  refine ⟨L', ck1, ve, fi, lg', sn', sx', sm', ss', so', k1, k2, ⟨n + 1, fun post H => ?_⟩, ⟨m + 1, fun post H => ?_⟩⟩
  · refine tr_x26 (by omega) hN hcN hac (fun q => absurd q (by omega)) hj ht.1 ht.2.1 ?_
    unfold wX_run_83
    exact br_t (nI_le hNc (by omega)) (HX post _ (kx post H))
  · refine tr_y32 (by omega) hN hcN hac (fun q => absurd q (by omega)) hjb ht.1 ht.2.1 ?_
    exact HY post _ (ky post H)
/-- a child found -/
theorem tr_Out_child (hN : N ≤ 10) (hc : c < N) (hac : nx t ≤ c) (hL : L < 20) (hA : tr_A N (t + 1) sn sx nd nx V) (hB : tr_B N (t + 1) ck vx vy fx fy sm ss so nd) (hpb : ∀ j, 1 ≤ j → pb j = pa j) (hx : pa c = nI (nd t)) (hj : ∀ j, nx t ≤ j → j < c → ¬ pa j = nI (nd t))
    (K : ∀ ck' z md s ow vx' fx', tr_Ent ck (ss t) c vx fx ck' md s ow vx' fx' → tr_Out N (t + 2) (L + 1) ck' yc pa pb kd w cs vx' vy fx' fy (upd lg L z) (upd sn (t + 1) (nI c)) (upd (upd sx t (nI (c + 1))) (t + 1) (nI (c + 1))) (upd sm (t + 1) md) (upd ss (t + 1) s) (upd so (t + 1) ow) (nI c) (ss t)) : tr_Out N (t + 1) L ck yc pa pb kd w cs vx vy fx fy lg sn sx sm ss so x6 x7 := by
  have ht := hA.1 t (by omega)
  have hm := hB.1 t (by omega)
  have hh : ss t = 0 ∨ ss t = 2 ∨ ss t = 3 ∨ ss t = 4 := by
    rcases hm with a | a | a
    · exact Or.inr (Or.inr (Or.inr a.2.1))
    · rcases a.2.1 with b | b
      · exact Or.inr (Or.inl b)
      · exact Or.inr (Or.inr (Or.inl b))
    · rcases a.2.1 with b | b | b
      · exact Or.inl b
      · exact Or.inr (Or.inl b)
      · exact Or.inr (Or.inr (Or.inl b))
  have hjb : ∀ j, nx t ≤ j → j < c → ¬ pb j = nI (nd t) := fun j a b => by rw [hpb j (by omega)]; exact hj j a b
  have hxb : pb c = nI (nd t) := by rw [hpb c (by omega)]; exact hx
  obtain ⟨ck', z, md, s, ow, vx', fx', hE, HX, HY⟩ := tr_enter (N := N) (L := L) (p := t + 1) (c := c) (ck := ck) (yc := yc) (pa := pa) (pb := pb) (kd := kd) (w := w) (vx := vx) (vy := vy) (lg := lg) (sn := sn) (sx := upd sx t (nI (c + 1))) (sm := sm) (ss := ss) (so := so) (cs := cs) (fx := fx) (fy := fy) (h := ss t) (by omega) (by omega) hL hh
  obtain ⟨L', ck1, ve, fi, lg', sn', sx', sm', ss', so', k1, k2, ⟨n, kx⟩, ⟨m, ky⟩⟩ := K ck' z md s ow vx' fx' hE
  refine ⟨L', ck1, ve, fi, lg', sn', sx', sm', ss', so', k1, k2, ⟨n + 1, fun post H => ?_⟩, ⟨m + 1 + 1, fun post H => ?_⟩⟩
  · refine tr_x26 (by omega) hN (by omega) hac (fun _ => hx) hj ht.1 ht.2.1 ?_
    exact tr_x83 (by omega) hN hc HX (kx post H)
  · refine tr_y32 (by omega) hN (by omega) hac (fun _ => hxb) hjb ht.1 ht.2.1 ?_
    refine tr_y282 (by omega) hN hc ?_
    exact br_f (by decide) (HY post _ (ky post H))
end
theorem tr_main {N : Nat} {yc : Int64} {pa pb kd w : Nat → Int32} {cs : Nat → Int64} (hN : N ≤ 10) (hpb : ∀ j, 1 ≤ j → pb j = pa j) : ∀ (m sp L : Nat) (ck : Int64) (vx vy : Nat → Int32) (fx fy : Nat → Int64) (lg sn sx sm ss so : Nat → Int32) (x6 x7 : Int32) (nd nx : Nat → Nat) (V : Nat → Bool), tr_A N sp sn sx nd nx V → tr_B N sp ck vx vy fx fy sm ss so nd → tr_C N sp L pa nd nx V → 2 * (10 - tr_cnt V 10) + sp ≤ m → tr_Out N sp L ck yc pa pb kd w cs vx vy fx fy lg sn sx sm ss so x6 x7 := by
  intro m
  induction m with
  | zero =>
    intro sp L ck vx vy fx fy lg sn sx sm ss so x6 x7 nd nx V hA hB hC hm
    have e : sp = 0 := by omega
    subst e
    exact tr_Out_0 hB hC
  | succ m ih =>
    intro sp L ck vx vy fx fy lg sn sx sm ss so x6 x7 nd nx V hA hB hC hm
    cases sp with
    | zero => exact tr_Out_0 hB hC
    | succ t =>
      have ht := hA.1 t (by omega)
      have l1 := tr_cnt_le V 10
      have l2 := hC.2.2
      obtain ⟨c, h1, h2, h3, h4⟩ := tr_scan pa N (nI (nd t)) (N - nx t) (nx t) (by omega)
      by_cases hc : c < N
      · have hx := h3 hc
        have hn := tr_new hA hC h1 hx
        have l3 := tr_cnt_new V c hn 10 (by omega)
        have l4 := tr_cnt_le (tr_set V c) 10
        refine tr_Out_child hN hc h1 (by omega) hA hB hpb hx h4 ?_
        intro ck' z md s ow vx' fx' hE
        exact ih (t + 2) (L + 1) ck' vx' vy fx' fy _ _ _ _ _ _ _ _ _ _ _ (tr_A_child hA h1 hc) (tr_B_child hA hB h1 hc hE) (tr_C_child hN hA hC h1 hc hx) (by omega)
      · by_cases hs : ss t = 4
        · refine tr_Out_exit4 (c := c) hN (by omega) h2 h1 hA hB hs hpb h4 ?_
          exact ih t L ck vx _ fx _ lg sn sx sm ss so x6 x7 nd nx V (tr_A_exit hA) (tr_B_exit4 hA hB hs) (tr_C_exit (by omega) hC) (by omega)
        · refine tr_Out_exit (c := c) hN (by omega) h2 h1 (by omega) hA hB hs hpb h4 ?_
          intro v z
          exact ih t (L + 1) ck _ _ _ _ _ sn sx sm ss so x6 x7 nd nx V (tr_A_exit hA) (tr_B_exit hA hB hs) (tr_C_exit (by omega) hC) (by omega)
end
section
/-- the relation: all alike but the parents at 0 and the stack's modes; nothing beyond the count -/
def i_Rel (_ : Nat) (u : SX) (v : SY) : Prop :=
  ∃ (N L : Nat) (ck : Int64) (pa pb kd w : Nat → Int32) (cs : Nat → Int64) (ve : Nat → Int32) (fi : Nat → Int64) (lg sn sx sm ss so : Nat → Int32),
    u = (nI N, ck, nI L, pa, kd, w, cs, ve, fi, lg, sn, sx, sm, ss) ∧ v = (nI N, nI L, ck, pb, kd, w, cs, ve, fi, lg, sn, ss, sx, so) ∧ 1 ≤ N ∧ N ≤ 10 ∧ L ≤ 20 ∧ (∀ j, 1 ≤ j → pb j = pa j) ∧ (∀ j, N ≤ j → w j = 0 ∧ cs j = 0 ∧ ve j = 0 ∧ fi j = 0)
theorem i_up {k : Nat} {u : SX} {v : SY} (h : i_Rel k u v) : i_Rel (k + 5) u v := h
theorem tr_upd0 {f : Nat → Int32} {k : Nat} {x : Int32} (h : f k = x) : upd f k x = f := by
  funext j
  by_cases e : j = k
  · rw [e, pk_us, h]
  · rw [pk_un e]
theorem tr_updL0 {f : Nat → Int64} {k : Nat} {x : Int64} (h : f k = x) : vp_updL f k x = f := by
  funext j
  by_cases e : j = k
  · rw [e, pk_uLs, h]
  · rw [pk_uLn e]
theorem i_vc0 : wpX_init (fun u => wpY_init (fun v => i_Rel 0 u v)) := by
  unfold wpX_init wpY_init
  refine nm_e (nm_r (e' := fun _ => 0) (tr_upd0 rfl) ?_)
  refine ⟨1, 0, 0, upd (fun _ => 0) 0 (-1), (fun _ => 0), (fun _ => 0), (fun _ => 0), (fun _ => 0), (fun _ => 0), (fun _ => 0), (fun _ => 0), (fun _ => 0), (fun _ => 0), (fun _ => 0), (fun _ => 0), (fun _ => 0), rfl, rfl, by decide, by decide, by decide, fun j hj => ?_, fun j hj => ⟨rfl, rfl, rfl, rfl⟩⟩
  rw [pk_un (by omega)]
theorem tr_add {k N L : Nat} {ck : Int64} {pa pb kd w : Nat → Int32} {cs : Nat → Int64} {ve : Nat → Int32} {fi : Nat → Int64} {lg sn sx sm ss so : Nat → Int32} (h1 : 1 ≤ N) (h2 : N ≤ 10) (h3 : L ≤ 20) (h4 : ∀ j, 1 ≤ j → pb j = pa j) (h5 : ∀ j, N ≤ j → w j = 0 ∧ cs j = 0 ∧ ve j = 0 ∧ fi j = 0) (v1 v2 : Int32) (hv : v2 = 0 ∨ v2 = 1) : ∃ r u' v', i_Rel k u' v' ∧ (∀ post : Int32 → SX → Prop, post r u' → wX_addNode_11 post v1 v2 (nI N) ck (nI L) pa kd w cs ve fi lg sn sx sm ss) ∧ (∀ post : Int32 → SY → Prop, post r v' → wY_addNode_11 post v1 v2 (nI N) (nI L) ck pb kd w cs ve fi lg sn ss sx so) := by
  have R : i_Rel k (nI N, ck, nI L, pa, kd, w, cs, ve, fi, lg, sn, sx, sm, ss) (nI N, nI L, ck, pb, kd, w, cs, ve, fi, lg, sn, ss, sx, so) := ⟨N, L, ck, pa, pb, kd, w, cs, ve, fi, lg, sn, sx, sm, ss, so, rfl, rfl, h1, h2, h3, h4, h5⟩
  rcases pk_ix v1 (n := N) (by omega) with q | q | ⟨a, ha, rfl⟩
  · exact ⟨-2, _, _, R, fun post H => br_t q H, fun post H => br_t q H⟩
  · have q0 : ¬ v1 < 0 := by
      rw [Int32.lt_iff_toInt_lt]
      rw [Int32.le_iff_toInt_le, nI_toInt (by omega)] at q
      have : (0 : Int32).toInt = 0 := by decide
      omega
    have q1 : ¬ v1 < nI N := Int32.not_lt.mpr q
    exact ⟨-2, _, _, R, fun post H => br_f q0 (br_f q1 H), fun post H => br_f q0 (br_f q1 H)⟩
  · have q0 : ¬ nI a < 0 := nI_pos (by omega)
    have q1 : nI a < nI N := nI_lt ha (by omega)
    have ia : vp_in (nI a) 10 := tr_in (by omega)
    by_cases hk : kd (nI a).toNatClampNeg = 1
    · exact ⟨-3, _, _, R, fun post H => br_f q0 (br_t q1 ⟨ia, br_t hk H⟩), fun post H => br_f q0 (br_t q1 ⟨ia, br_t hk H⟩)⟩
    · by_cases hN : N < 10
      · have q2 : nI N < 10 := nI_lt (b := 10) hN (by decide)
        have iN := tr_in hN
        have eN := tr_cl hN
        have z := h5 N (Nat.le_refl N)
        have ew : upd w (nI N).toNatClampNeg (vp_nar .short 0) = w := by rw [eN]; exact tr_upd0 z.1
        have ec : vp_updL cs (nI N).toNatClampNeg 0 = cs := by rw [eN]; exact tr_updL0 z.2.1
        have ev : upd ve (nI N).toNatClampNeg 0 = ve := by rw [eN]; exact tr_upd0 z.2.2.1
        have ef : vp_updL fi (nI N).toNatClampNeg 0 = fi := by rw [eN]; exact tr_updL0 z.2.2.2
        have ep : upd pb (nI N).toNatClampNeg (vp_nar .short (nI a).toInt16.toInt32) = upd pb N (nI a) := by rw [eN, tr_ns a (by omega)]
        have ek : upd kd (nI N).toNatClampNeg (vp_nar .byte v2.toInt8.toInt32) = upd kd N v2 := by
          rw [eN]
          rcases hv with rfl | rfl
          · exact congrArg (upd kd N) (tr_nb 0 (by decide))
          · exact congrArg (upd kd N) (tr_nb 1 (by decide))
        refine ⟨nI N, (nI (N + 1), ck, nI L, upd pa N (nI a), upd kd N v2, w, cs, ve, fi, lg, sn, sx, sm, ss), (nI (N + 1), nI L, ck, upd pb N (nI a), upd kd N v2, w, cs, ve, fi, lg, sn, ss, sx, so), ?_, fun post H => ?_, fun post H => ?_⟩
        · refine ⟨N + 1, L, ck, _, _, _, _, _, _, _, _, _, _, _, _, _, rfl, rfl, by omega, by omega, h3, fun j hj => ?_, fun j hj => h5 j (by omega)⟩
          by_cases e : j = N
          · rw [e, pk_us, pk_us]
          · rw [pk_un e, pk_un e]; exact h4 j hj
        · refine br_f q0 (br_t q1 ⟨ia, br_f hk (br_t q2 ⟨iN, nm_r (e' := upd pa N (nI a)) (by rw [eN]) ⟨iN, nm_r (e' := upd kd N v2) (by rw [eN]) ⟨iN, nm_r ew ⟨iN, nm_r ec ⟨iN, nm_r ev ⟨iN, nm_r ef (nm_r (e' := nI (N + 1)) (nI_1 N) H)⟩⟩⟩⟩⟩⟩)⟩)
        · exact br_f q0 (br_t q1 ⟨ia, br_f hk (br_t q2 ⟨iN, nm_r ep ⟨iN, nm_r ek (nm_r (e' := nI (N + 1)) (nI_1 N) H)⟩⟩)⟩)
      · have q2 : ¬ nI N < 10 := nI_nlt (b := 10) (by omega) (by omega)
        exact ⟨-4, _, _, R, fun post H => br_f q0 (br_t q1 ⟨ia, br_f hk (br_f q2 H)⟩), fun post H => br_f q0 (br_t q1 ⟨ia, br_f hk (br_f q2 H)⟩)⟩
theorem i_vc_addNode {k : Nat} {u : SX} {v : SY} (I : i_Rel k u v) (hk : k + 5 ≤ 2560) (v1 : Int32) (v2 : Int32) : wpX_addNode (fun r u' => wpY_addNode (fun r' v' => r' = r ∧ i_Rel (k + 5) u' v') v v1 v2) u v1 v2 := by
  obtain ⟨N, L, ck, pa, pb, kd, w, cs, ve, fi, lg, sn, sx, sm, ss, so, rfl, rfl, h1, h2, h3, h4, h5⟩ := I
  unfold wpX_addNode wpY_addNode
  dsimp only
  by_cases e0 : v2 = 0
  · obtain ⟨r, u', v', hR, HX, HY⟩ := tr_add (k := k + 5) (ck := ck) (kd := kd) (lg := lg) (sn := sn) (sx := sx) (sm := sm) (ss := ss) (so := so) h1 h2 h3 h4 h5 v1 v2 (Or.inl e0)
    exact br_t e0 (HX _ (br_t e0 (HY _ ⟨rfl, hR⟩)))
  · by_cases e1 : v2 = 1
    · obtain ⟨r, u', v', hR, HX, HY⟩ := tr_add (k := k + 5) (ck := ck) (kd := kd) (lg := lg) (sn := sn) (sx := sx) (sm := sm) (ss := ss) (so := so) h1 h2 h3 h4 h5 v1 v2 (Or.inr e1)
      exact br_f e0 (br_t e1 (HX _ (br_f e0 (br_t e1 (HY _ ⟨rfl, hR⟩)))))
    · exact br_f e0 (br_f e1 (br_f e0 (br_f e1 ⟨rfl, N, L, ck, pa, pb, kd, w, cs, ve, fi, lg, sn, sx, sm, ss, so, rfl, rfl, h1, h2, h3, h4, h5⟩)))
theorem tr_ge {x : Int32} {N : Nat} (hN : N < 2 ^ 31) (q : nI N ≤ x) : ¬ x < 0 ∧ ¬ x < nI N := by
  refine ⟨?_, Int32.not_lt.mpr q⟩
  rw [Int32.lt_iff_toInt_lt]
  rw [Int32.le_iff_toInt_le, nI_toInt hN] at q
  have : (0 : Int32).toInt = 0 := by decide
  omega
theorem i_vc_setBehaviour {k : Nat} {u : SX} {v : SY} (I : i_Rel k u v) (hk : k + 5 ≤ 2560) (v1 : Int32) (v2 : Int32) (a2 : Int64) : wpX_setBehaviour (fun r u' => wpY_setBehaviour (fun r' v' => r' = r ∧ i_Rel (k + 5) u' v') v v1 v2 a2) u v1 v2 a2 := by
  obtain ⟨N, L, ck, pa, pb, kd, w, cs, ve, fi, lg, sn, sx, sm, ss, so, rfl, rfl, h1, h2, h3, h4, h5⟩ := I
  have R : i_Rel (k + 5) (nI N, ck, nI L, pa, kd, w, cs, ve, fi, lg, sn, sx, sm, ss) (nI N, nI L, ck, pb, kd, w, cs, ve, fi, lg, sn, ss, sx, so) := ⟨N, L, ck, pa, pb, kd, w, cs, ve, fi, lg, sn, sx, sm, ss, so, rfl, rfl, h1, h2, h3, h4, h5⟩
  unfold wpX_setBehaviour wpY_setBehaviour
  dsimp only
  rcases pk_ix v1 (n := N) (by omega) with q | q | ⟨a, ha, rfl⟩
  · exact br_t q (br_t q ⟨rfl, R⟩)
  · obtain ⟨q0, q1⟩ := tr_ge (by omega) q
    exact br_f q0 (br_f q1 (br_f q0 (br_f q1 ⟨rfl, R⟩)))
  · have q0 : ¬ nI a < 0 := nI_pos (by omega)
    have q1 : nI a < nI N := nI_lt ha (by omega)
    have ia : vp_in (nI a) 10 := tr_in (by omega)
    rw [tr_cl (p := a) (by omega)]
    refine br_f q0 (br_t q1 ⟨ia, nm_e ⟨ia, nm_e ⟨ia, nm_e (br_f q0 (br_t q1 ⟨ia, nm_e ⟨ia, nm_e ⟨ia, nm_e ⟨rfl, ?_⟩⟩⟩⟩))⟩⟩⟩)
    refine ⟨N, L, ck, pa, pb, kd, upd w a (vp_nar .short v2.toInt16.toInt32), vp_updL cs a a2, ve, fi, lg, sn, sx, sm, ss, so, rfl, rfl, h1, h2, h3, h4, fun j hj => ?_⟩
    rw [pk_un (by omega), pk_uLn (by omega)]
    exact h5 j hj
theorem i_vc_run {k : Nat} {u : SX} {v : SY} (I : i_Rel k u v) (hk : k + 5 ≤ 2560) (a0 : Int64) : wpX_run (fun r u' => wpY_run (fun r' v' => r' = r ∧ i_Rel (k + 5) u' v') v a0) u a0 := by
  obtain ⟨N, L, ck, pa, pb, kd, w, cs, ve, fi, lg, sn, sx, sm, ss, so, rfl, rfl, h1, h2, h3, h4, h5⟩ := I
  obtain ⟨ck', z, md, s, ow, vx', fx', hE, HX, HY⟩ := tr_enter (N := N) (L := 0) (p := 0) (c := 0) (ck := ck + a0) (yc := ck + a0) (pa := pa) (pb := pb) (kd := kd) (w := w) (vx := ve) (vy := ve) (lg := lg) (sn := sn) (sx := sx) (sm := sm) (ss := ss) (so := so) (cs := cs) (fx := fi) (fy := fi) (h := 0) (by decide) (by decide) (by decide) (Or.inl rfl)
  have O : tr_Out N 1 1 ck' (ck + a0) pa pb kd w cs vx' ve fx' fi (upd lg 0 z) (upd sn 0 (nI 0)) (upd sx 0 (nI 1)) (upd sm 0 md) (upd ss 0 s) (upd so 0 ow) (nI 0) 0 :=
    tr_main h2 h4 21 1 1 ck' vx' ve fx' fi _ _ _ _ _ _ _ _ _ _ _ (tr_A_0 h1) (tr_B_0 h1 (fun j hj => (h5 j hj).2.2) hE) (tr_C_0 h1) (by omega)
  obtain ⟨L', ck1, ve', fi', lg', sn', sx', sm', ss', so', k1, k2, ⟨n, kx⟩, ⟨m, ky⟩⟩ := O
  unfold wpX_run
  dsimp only
  refine nm_e (HX _ ?_)
  dsimp only
  refine ⟨n, kx _ ?_⟩
  unfold wpY_run
  dsimp only
  refine nm_e ⟨m + 1, br_f (by decide) (HY _ _ (ky _ ⟨rfl, ?_⟩))⟩
  exact ⟨N, L', ck1, pa, pb, kd, w, cs, ve', fi', lg', sn', sx', sm', ss', so', rfl, rfl, h1, h2, k1, h4, fun j hj => ⟨(h5 j hj).1, (h5 j hj).2.1, k2 j hj⟩⟩
theorem i_vc_eventAt {k : Nat} {u : SX} {v : SY} (I : i_Rel k u v) (hk : k + 5 ≤ 2560) (v1 : Int32) : wpX_eventAt (fun r => wpY_eventAt (fun r' => r' = r ∧ i_Rel (k + 5) u v) v v1) u v1 := by
  have R : i_Rel (k + 5) u v := I
  obtain ⟨N, L, ck, pa, pb, kd, w, cs, ve, fi, lg, sn, sx, sm, ss, so, rfl, rfl, h1, h2, h3, h4, h5⟩ := I
  unfold wpX_eventAt wpY_eventAt
  dsimp only
  rcases pk_ix v1 (n := L) (by omega) with q | q | ⟨a, ha, rfl⟩
  · exact br_t q (br_t q ⟨rfl, R⟩)
  · obtain ⟨q0, q1⟩ := tr_ge (by omega) q
    exact br_f q0 (br_f q1 (br_f q0 (br_f q1 ⟨rfl, R⟩)))
  · have q0 : ¬ nI a < 0 := nI_pos (by omega)
    have q1 : nI a < nI L := nI_lt ha (by omega)
    have ia : vp_in (nI a) 20 := vp_in_nI (by omega) (by decide)
    exact br_f q0 (br_t q1 ⟨ia, br_f q0 (br_t q1 ⟨ia, rfl, R⟩)⟩)
theorem i_vc_verdictOf {k : Nat} {u : SX} {v : SY} (I : i_Rel k u v) (hk : k + 5 ≤ 2560) (v1 : Int32) : wpX_verdictOf (fun r => wpY_verdictOf (fun r' => r' = r ∧ i_Rel (k + 5) u v) v v1) u v1 := by
  have R : i_Rel (k + 5) u v := I
  obtain ⟨N, L, ck, pa, pb, kd, w, cs, ve, fi, lg, sn, sx, sm, ss, so, rfl, rfl, h1, h2, h3, h4, h5⟩ := I
  unfold wpX_verdictOf wpY_verdictOf
  dsimp only
  rcases pk_ix v1 (n := N) (by omega) with q | q | ⟨a, ha, rfl⟩
  · exact br_t q (br_t q ⟨rfl, R⟩)
  · obtain ⟨q0, q1⟩ := tr_ge (by omega) q
    exact br_f q0 (br_f q1 (br_f q0 (br_f q1 ⟨rfl, R⟩)))
  · have q0 : ¬ nI a < 0 := nI_pos (by omega)
    have q1 : nI a < nI N := nI_lt ha (by omega)
    have ia : vp_in (nI a) 10 := tr_in (by omega)
    exact br_f q0 (br_t q1 ⟨ia, br_f q0 (br_t q1 ⟨ia, rfl, R⟩)⟩)
theorem i_vc_finishedAt {k : Nat} {u : SX} {v : SY} (I : i_Rel k u v) (hk : k + 5 ≤ 2560) (v1 : Int32) : wpX_finishedAt (fun r => wpY_finishedAt (fun r' => r' = r ∧ i_Rel (k + 5) u v) v v1) u v1 := by
  have R : i_Rel (k + 5) u v := I
  obtain ⟨N, L, ck, pa, pb, kd, w, cs, ve, fi, lg, sn, sx, sm, ss, so, rfl, rfl, h1, h2, h3, h4, h5⟩ := I
  unfold wpX_finishedAt wpY_finishedAt
  dsimp only
  rcases pk_ix v1 (n := N) (by omega) with q | q | ⟨a, ha, rfl⟩
  · exact br_t q (br_t q ⟨rfl, R⟩)
  · obtain ⟨q0, q1⟩ := tr_ge (by omega) q
    exact br_f q0 (br_f q1 (br_f q0 (br_f q1 ⟨rfl, R⟩)))
  · have q0 : ¬ nI a < 0 := nI_pos (by omega)
    have q1 : nI a < nI N := nI_lt ha (by omega)
    have ia : vp_in (nI a) 10 := tr_in (by omega)
    exact br_f q0 (br_t q1 ⟨ia, br_f q0 (br_t q1 ⟨ia, rfl, R⟩)⟩)
end
