section
/-! one frame: what step computes, as a function of ints -/
/-- where a player means to go: x its place, m its move -/
def rg_to (x m : Int32) : Int32 := if m = 1 ∧ ¬ x ≤ 0 then x + (-1) else if m = 2 ∧ ¬ 9 ≤ x then x + 1 else x
/-- where it stands then: y the other's place -/
def rg_go (x y m : Int32) : Int32 := if rg_to x m = y then x else (rg_to x m).toInt8.toInt32
/-- the points t of the one that is struck at -/
def rg_hit (t m z : Int32) : Int32 := if m = 3 then (if z = 0 ∨ t ≤ 0 then t.toInt8.toInt32 else (t - 1).toInt8.toInt32) else t
def rg_pau (c m : Int32) : Int32 := if m = 3 then 2 else c
def rg_pk (x y s t c d : Int32) : Int32 := ((((x + (10 * y)) + (100 * s)) + (1000 * t)) + (10000 * c)) + (100000 * d)
def rg_nr (x y : Int32) : Int32 := if x - y < (-1) ∨ 1 < x - y then 0 else 1
def rg_s3 (fi se x y s t c d z : Int32) : Int32 := rg_pk x y (rg_hit s se z) (rg_hit t fi z) (rg_pau c fi) (rg_pau d se)
def rg_s2 (fi se x y s t c d : Int32) : Int32 := rg_s3 fi se (rg_go x y fi) (rg_go y (rg_go x y fi) se) s t c d (rg_nr (rg_go x y fi) (rg_go y (rg_go x y fi) se))
def rg_dec (c : Int32) : Int32 := (if c ≤ 0 then (0 : Int32) else c - 1).toInt8.toInt32
def rg_act (c m : Int32) : Int32 := if c ≤ 0 then m else (-1)
def rg_s1 (m0 m1 x y s t c d : Int32) : Int32 := rg_s2 (rg_act c m0) (rg_act d m1) x y s t (rg_dec c) (rg_dec d)
def rg_dg (f k : Int32) : Int32 := (f / k) - (f / k) / 10 * 10
def rg_step (f m0 m1 : Int32) : Int32 :=
  if rg_dg f 100 = 0 ∨ rg_dg f 1000 = 0 then f else
  rg_s1 m0 m1 (f - f / 10 * 10).toInt8.toInt32 (rg_dg f 10).toInt8.toInt32 (rg_dg f 100).toInt8.toInt32 (rg_dg f 1000).toInt8.toInt32 (rg_dg f 10000).toInt8.toInt32 (f / 100000).toInt8.toInt32
theorem rg_c0 : (0 : Int32).toNatClampNeg = 0 := by decide
theorem rg_c1 : (1 : Int32).toNatClampNeg = 1 := by decide
theorem rg_c10 : ((1 : Int32) - 0).toNatClampNeg = 1 := by decide
theorem rg_c11 : ((1 : Int32) - 1).toNatClampNeg = 0 := by decide
theorem rg_i0 : vp_in (0 : Int32) 2 := vp_in_iff.mpr (by decide)
theorem rg_i1 : vp_in (1 : Int32) 2 := vp_in_iff.mpr (by decide)
theorem rg_i10 : vp_in ((1 : Int32) - 0) 2 := vp_in_iff.mpr (by decide)
theorem rg_i11 : vp_in ((1 : Int32) - 1) 2 := vp_in_iff.mpr (by decide)
section
variable {post : St2 → Prop} {pc : Int32} {a1 a2 a3 a4 a5 a6 : Nat → Int32} {x y s t c d m z : Int32}
theorem rg_g36_0 {w : Int32} (h0 : a4 0 = x) (h1 : a4 1 = y) (H : ∀ b : Nat → Int32, b 0 = (if w = y then x else w.toInt8.toInt32) → b 1 = y → post (pc, a1, a2, a3, b, a5, a6)) : wX_go_36 post 0 w pc a1 a2 a3 a4 a5 a6 := by
  unfold wX_go_36
  rw [rg_c10, rg_c0, h1]
  exact ⟨rg_i10, br_c (fun g => H a4 (by rw [if_pos g, h0]) h1) (fun g => ⟨rg_i0, nm_e (H _ (by rw [if_neg g]; exact pk_us) (by rw [pk_un (by decide)]; exact h1))⟩)⟩
theorem rg_g36_1 {w : Int32} (h0 : a4 0 = x) (h1 : a4 1 = y) (H : ∀ b : Nat → Int32, b 0 = x → b 1 = (if w = x then y else w.toInt8.toInt32) → post (pc, a1, a2, a3, b, a5, a6)) : wX_go_36 post 1 w pc a1 a2 a3 a4 a5 a6 := by
  unfold wX_go_36
  rw [rg_c11, rg_c1, h0]
  exact ⟨rg_i11, br_c (fun g => H a4 h0 (by rw [if_pos g, h1])) (fun g => ⟨rg_i1, nm_e (H _ (by rw [pk_un (by decide)]; exact h0) (by rw [if_neg g]; exact pk_us))⟩)⟩
theorem rg_go22 {p : Int32} (k : wX_go_36 post p (rg_to x m) pc a1 a2 a3 a4 a5 a6) (hn : ¬ (m = 1 ∧ ¬ x ≤ 0)) : wX_go_22 post p m x pc a1 a2 a3 a4 a5 a6 := by
  unfold rg_to at k
  rw [if_neg hn] at k
  unfold wX_go_22
  refine br_c (fun g => br_c (fun g2 => ?_) (fun g2 => nm_e ?_)) (fun g => ?_)
  · rw [if_neg (fun q => q.2 g2)] at k
    exact k
  · rw [if_pos ⟨g, g2⟩] at k
    exact k
  · rw [if_neg (fun q => g q.1)] at k
    exact k
theorem rg_goW {p : Int32} (k : wX_go_36 post p (rg_to x m) pc a1 a2 a3 a4 a5 a6) : ((m = 1 → (((x ≤ 0 → (wX_go_22 post p m x pc a1 a2 a3 a4 a5 a6)) ∧ (¬ x ≤ 0 → (∀ x3_12 : Int32, x3_12 = x + (-1) → (wX_go_36 post p x3_12 pc a1 a2 a3 a4 a5 a6)))))) ∧ (¬ m = 1 → (wX_go_22 post p m x pc a1 a2 a3 a4 a5 a6))) := by
  refine br_c (fun g => br_c (fun g2 => rg_go22 k (fun q => q.2 g2)) (fun g2 => nm_e ?_)) (fun g => rg_go22 k (fun q => g q.1))
  unfold rg_to at k
  rw [if_pos ⟨g, g2⟩] at k
  exact k
theorem rg_go0 (h0 : a4 0 = x) (h1 : a4 1 = y) (H : ∀ b : Nat → Int32, b 0 = rg_go x y m → b 1 = y → post (pc, a1, a2, a3, b, a5, a6)) : wpX_go post (pc, a1, a2, a3, a4, a5, a6) 0 m := by
  unfold wpX_go
  dsimp only
  rw [rg_c0]
  exact ⟨rg_i0, nm_r h0 (rg_goW (rg_g36_0 h0 h1 H))⟩
theorem rg_go1 (h0 : a4 0 = x) (h1 : a4 1 = y) (H : ∀ b : Nat → Int32, b 0 = x → b 1 = rg_go y x m → post (pc, a1, a2, a3, b, a5, a6)) : wpX_go post (pc, a1, a2, a3, a4, a5, a6) 1 m := by
  unfold wpX_go
  dsimp only
  rw [rg_c1]
  exact ⟨rg_i1, nm_r h1 (rg_goW (rg_g36_1 h0 h1 H))⟩
theorem rg_st0 (h0 : a5 0 = s) (h1 : a5 1 = t) (k0 : a6 0 = c) (k1 : a6 1 = d) (H : ∀ b g : Nat → Int32, b 0 = s → b 1 = rg_hit t m z → g 0 = rg_pau c m → g 1 = d → post (pc, a1, a2, a3, a4, b, g)) : wpX_strike post (pc, a1, a2, a3, a4, a5, a6) 0 m z := by
  unfold wpX_strike
  dsimp only
  rw [rg_c0, rg_c10, h1]
  unfold rg_hit rg_pau at H
  refine br_c (fun g => ?_) (fun g => ?_)
  · rw [if_pos g, if_pos g] at H
    refine ⟨rg_i0, nm_e ?_⟩
    have e0 : upd a6 0 2 0 = 2 := pk_us
    have e1 : upd a6 0 2 1 = d := by rw [pk_un (by decide)]; exact k1
    have k47 : (z = 0 ∨ t ≤ 0) → wX_strike_47 post 0 (1 - 0) pc a1 a2 a3 a4 a5 (upd a6 0 2) := by
      intro q
      rw [if_pos q] at H
      unfold wX_strike_47
      rw [rg_c10, h1]
      exact ⟨rg_i10, rg_i10, nm_e (H _ _ (by rw [pk_un (by decide)]; exact h0) pk_us e0 e1)⟩
    refine br_c (fun g2 => k47 (Or.inl g2)) (fun g2 => ⟨rg_i10, br_c (fun g3 => k47 (Or.inr g3)) (fun g3 => ⟨rg_i10, rg_i10, nm_e ?_⟩)⟩)
    rw [if_neg (fun q => q.elim g2 g3)] at H
    exact H _ _ (by rw [pk_un (by decide)]; exact h0) pk_us e0 e1
  · rw [if_neg g, if_neg g] at H
    exact H _ _ h0 h1 k0 k1
theorem rg_st1 (h0 : a5 0 = s) (h1 : a5 1 = t) (k0 : a6 0 = c) (k1 : a6 1 = d) (H : ∀ b g : Nat → Int32, b 0 = rg_hit s m z → b 1 = t → g 0 = c → g 1 = rg_pau d m → post (pc, a1, a2, a3, a4, b, g)) : wpX_strike post (pc, a1, a2, a3, a4, a5, a6) 1 m z := by
  unfold wpX_strike
  dsimp only
  rw [rg_c1, rg_c11, h0]
  unfold rg_hit rg_pau at H
  refine br_c (fun g => ?_) (fun g => ?_)
  · rw [if_pos g, if_pos g] at H
    refine ⟨rg_i1, nm_e ?_⟩
    have e0 : upd a6 1 2 0 = c := by rw [pk_un (by decide)]; exact k0
    have e1 : upd a6 1 2 1 = 2 := pk_us
    have k47 : (z = 0 ∨ s ≤ 0) → wX_strike_47 post 1 (1 - 1) pc a1 a2 a3 a4 a5 (upd a6 1 2) := by
      intro q
      rw [if_pos q] at H
      unfold wX_strike_47
      rw [rg_c11, h0]
      exact ⟨rg_i11, rg_i11, nm_e (H _ _ pk_us (by rw [pk_un (by decide)]; exact h1) e0 e1)⟩
    refine br_c (fun g2 => k47 (Or.inl g2)) (fun g2 => ⟨rg_i11, br_c (fun g3 => k47 (Or.inr g3)) (fun g3 => ⟨rg_i11, rg_i11, nm_e ?_⟩)⟩)
    rw [if_neg (fun q => q.elim g2 g3)] at H
    exact H _ _ pk_us (by rw [pk_un (by decide)]; exact h1) e0 e1
  · rw [if_neg g, if_neg g] at H
    exact H _ _ h0 h1 k0 k1
theorem rg_load {f : Int32} (H : ∀ b4 b5 b6 : Nat → Int32, b4 0 = (f - f / 10 * 10).toInt8.toInt32 → b4 1 = (rg_dg f 10).toInt8.toInt32 → b5 0 = (rg_dg f 100).toInt8.toInt32 → b5 1 = (rg_dg f 1000).toInt8.toInt32 → b6 0 = (rg_dg f 10000).toInt8.toInt32 → b6 1 = (f / 100000).toInt8.toInt32 → post (pc, a1, a2, a3, b4, b5, b6)) : wpX_load post (pc, a1, a2, a3, a4, a5, a6) f := by
  unfold wpX_load
  dsimp only
  refine ⟨by decide, nm_e ⟨by decide, by decide, nm_e ⟨by decide, by decide, nm_e ⟨by decide, by decide, nm_e ⟨by decide, by decide, nm_e ⟨by decide, nm_e ?_⟩⟩⟩⟩⟩⟩
  exact H _ _ _ (by rw [pk_un (by decide)]; exact pk_us) pk_us (by rw [pk_un (by decide)]; exact pk_us) pk_us (by rw [pk_un (by decide)]; exact pk_us) pk_us
end
theorem rg_over {post : Int32 → Prop} {f : Int32} (h1 : (rg_dg f 100 = 0 ∨ rg_dg f 1000 = 0) → post 1) (h0 : ¬ (rg_dg f 100 = 0 ∨ rg_dg f 1000 = 0) → post 0) : wpX_isOver post () f := by
  unfold wpX_isOver
  exact ⟨by decide, by decide, br_c (fun g => h1 (Or.inl g)) (fun g => ⟨by decide, by decide, br_c (fun g2 => h1 (Or.inr g2)) (fun g2 => h0 (fun q => q.elim g g2))⟩)⟩
section
variable {post : Int32 → St2 → Prop} {pc : Int32} {a1 a2 a3 a4 a5 a6 : Nat → Int32} {x y s t c d fi se z : Int32}
theorem rg_148 (p0 : a4 0 = x) (p1 : a4 1 = y) (h0 : a5 0 = s) (h1 : a5 1 = t) (k0 : a6 0 = c) (k1 : a6 1 = d) (H : ∀ b4 b5 b6 : Nat → Int32, post (rg_s3 fi se x y s t c d z) (pc, a1, a2, a3, b4, b5, b6)) : wX_step_148 post fi se z pc a1 a2 a3 a4 a5 a6 := by
  unfold wX_step_148
  refine rg_st0 h0 h1 k0 k1 (fun b g e0 e1 e2 e3 => ?_)
  dsimp only
  refine rg_st1 e0 e1 e2 e3 (fun b' g' f0 f1 f2 f3 => ?_)
  dsimp only
  unfold wpX_pack
  dsimp only
  rw [p0, p1, f0, f1, f2, f3]
  exact H _ _ _
theorem rg_100 (p0 : a4 0 = x) (p1 : a4 1 = y) (h0 : a5 0 = s) (h1 : a5 1 = t) (k0 : a6 0 = c) (H : ∀ b4 b5 b6 : Nat → Int32, post (rg_s2 fi se x y s t c z.toInt8.toInt32) (pc, a1, a2, a3, b4, b5, b6)) : wX_step_100 post fi se z 1 pc a1 a2 a3 a4 a5 a6 := by
  unfold wX_step_100
  rw [rg_c1]
  refine ⟨rg_i1, nm_e ?_⟩
  refine rg_go0 p0 p1 (fun b e0 e1 => ?_)
  dsimp only
  refine rg_go1 e0 e1 (fun b' f0 f1 => ?_)
  dsimp only
  rw [f0, f1]
  have q0 : upd a6 1 z.toInt8.toInt32 0 = c := by rw [pk_un (by decide)]; exact k0
  have q1 : upd a6 1 z.toInt8.toInt32 1 = z.toInt8.toInt32 := pk_us
  unfold rg_s2 rg_nr at H
  refine nm_e (br_c (fun g => ?_) (fun g => br_c (fun g2 => ?_) (fun g2 => ?_)))
  · unfold wX_step_147
    rw [if_pos (Or.inl g)] at H
    exact rg_148 f0 f1 h0 h1 q0 q1 H
  · unfold wX_step_147
    rw [if_pos (Or.inr g2)] at H
    exact rg_148 f0 f1 h0 h1 q0 q1 H
  · rw [if_neg (fun q => q.elim g g2)] at H
    exact rg_148 f0 f1 h0 h1 q0 q1 H
theorem rg_72 (p0 : a4 0 = x) (p1 : a4 1 = y) (h0 : a5 0 = s) (h1 : a5 1 = t) (k1 : a6 1 = d) (H : ∀ b4 b5 b6 : Nat → Int32, post (rg_s2 fi se x y s t z.toInt8.toInt32 (rg_dec d)) (pc, a1, a2, a3, b4, b5, b6)) : wX_step_72 post fi se z 0 pc a1 a2 a3 a4 a5 a6 := by
  unfold wX_step_72
  rw [rg_c0]
  refine ⟨rg_i0, nm_e ?_⟩
  have q0 : upd a6 0 z.toInt8.toInt32 0 = z.toInt8.toInt32 := pk_us
  have q1 : upd a6 0 z.toInt8.toInt32 1 = d := by rw [pk_un (by decide)]; exact k1
  rw [q1]
  unfold rg_dec at H
  refine br_c (fun g => ?_) (fun g => ?_)
  · rw [if_pos g] at H
    exact rg_100 p0 p1 h0 h1 q0 H
  · rw [if_neg g] at H
    exact rg_100 p0 p1 h0 h1 q0 H
theorem rg_44 (p0 : a4 0 = x) (p1 : a4 1 = y) (h0 : a5 0 = s) (h1 : a5 1 = t) (k0 : a6 0 = c) (k1 : a6 1 = d) (H : ∀ b4 b5 b6 : Nat → Int32, post (rg_s2 fi se x y s t (rg_dec c) (rg_dec d)) (pc, a1, a2, a3, b4, b5, b6)) : wX_step_44 post fi se pc a1 a2 a3 a4 a5 a6 := by
  unfold wX_step_44
  rw [k0]
  refine br_c (fun g => ?_) (fun g => ?_)
  · rw [show rg_dec c = (0 : Int32).toInt8.toInt32 by unfold rg_dec; rw [if_pos g]] at H
    exact rg_72 p0 p1 h0 h1 k1 H
  · rw [show rg_dec c = (c - 1).toInt8.toInt32 by unfold rg_dec; rw [if_neg g]] at H
    exact rg_72 p0 p1 h0 h1 k1 H
theorem rg_28 {m1 : Int32} (p0 : a4 0 = x) (p1 : a4 1 = y) (h0 : a5 0 = s) (h1 : a5 1 = t) (k0 : a6 0 = c) (k1 : a6 1 = d) (H : ∀ b4 b5 b6 : Nat → Int32, post (rg_s2 fi (rg_act d m1) x y s t (rg_dec c) (rg_dec d)) (pc, a1, a2, a3, b4, b5, b6)) : wX_step_28 post m1 fi pc a1 a2 a3 a4 a5 a6 := by
  unfold wX_step_28
  rw [k1]
  refine br_c (fun g => ?_) (fun g => ?_)
  · rw [show rg_act d m1 = m1 by unfold rg_act; rw [if_pos g]] at H
    exact rg_44 p0 p1 h0 h1 k0 k1 H
  · rw [show rg_act d m1 = -1 by unfold rg_act; rw [if_neg g]] at H
    exact rg_44 p0 p1 h0 h1 k0 k1 H
theorem rg_stp {f m0 m1 : Int32} (H : ∀ b4 b5 b6 : Nat → Int32, post (rg_step f m0 m1) (pc, a1, a2, a3, b4, b5, b6)) : wpX_step post (pc, a1, a2, a3, a4, a5, a6) f m0 m1 := by
  unfold wpX_step
  dsimp only
  refine rg_over (fun g => br_f (by decide) ?_) (fun g => br_t rfl ?_)
  · unfold rg_step at H
    rw [if_pos g] at H
    exact H _ _ _
  · unfold rg_step at H
    rw [if_neg g] at H
    refine rg_load (fun b4 b5 b6 p0 p1 h0 h1 k0 k1 => ?_)
    dsimp only
    rw [k0]
    unfold rg_s1 at H
    refine br_c (fun g2 => ?_) (fun g2 => ?_)
    · rw [show rg_act (rg_dg f 10000).toInt8.toInt32 m0 = m0 by unfold rg_act; rw [if_pos g2]] at H
      exact rg_28 p0 p1 h0 h1 k0 k1 H
    · rw [show rg_act (rg_dg f 10000).toInt8.toInt32 m0 = -1 by unfold rg_act; rw [if_neg g2]] at H
      exact rg_28 p0 p1 h0 h1 k0 k1 H
end
end
section
/-! replay: it fills saved with the fields D, as long as it plays; the constructor -/
section
variable {post : Int32 → St2 → Prop} {a1 a2 a3 : Nat → Int32} {fr up : Nat} {D : Nat → Int32}
/-- the loop's tail: the field is stored, the count stays 0 (nothing is played yet) -/
theorem rg_r99 {J : Int32 → Int32 → Int32 → Int32 → (Nat → Int32) → (Nat → Int32) → (Nat → Int32) → (Nat → Int32) → (Nat → Int32) → (Nat → Int32) → Prop} {x2 z v : Int32} {f : Nat} {b1 b2 b3 b4 b5 b6 : Nat → Int32} (hf : f < 40)
    (H : J 0 z (nI (f + 1)) 0 b1 b2 (upd b3 (f + 1) v) b4 b5 b6) : wX_replay_99 post J x2 z (nI f) v 0 0 0 b1 b2 b3 b4 b5 b6 := by
  unfold wX_replay_99
  rw [nI_1, nI_clamp (show f + 1 < 2 ^ 31 by omega)]
  exact nm_r (e' := 0) (by decide) ⟨pk_in (f + 1) 41 (by omega), nm_e (nm_e H)⟩
theorem rg_r75 {J : Int32 → Int32 → Int32 → Int32 → (Nat → Int32) → (Nat → Int32) → (Nat → Int32) → (Nat → Int32) → (Nat → Int32) → (Nat → Int32) → Prop} {x2 z v : Int32} {f : Nat} {b1 b2 b3 b4 b5 b6 : Nat → Int32} (hf : f < 40)
    (H : J 0 z (nI (f + 1)) 0 b1 b2 (upd b3 (f + 1) v) b4 b5 b6) : wX_replay_75 post J x2 0 (nI f) v z 0 b1 b2 b3 b4 b5 b6 := by
  unfold wX_replay_75 wX_replay_98
  refine br_c (fun g => rg_r99 hf H) (fun g => br_t ?_ (rg_r99 hf H))
  rw [nI_1]
  exact nI_lt (a := 0) (b := f + 1) (by omega) (by omega)
theorem rg_r26 {J : Int32 → Int32 → Int32 → Int32 → (Nat → Int32) → (Nat → Int32) → (Nat → Int32) → (Nat → Int32) → (Nat → Int32) → (Nat → Int32) → Prop} {x2 v w : Int32} {f : Nat} {b3 b4 b5 b6 : Nat → Int32} (hf : f < 40)
    (hv : rg_step (b3 f) (a2 f) (a2 (40 + f)) = v) (hw : b3 (f + 1) = w)
    (H : ∀ z c4 c5 c6, (z = 0 → v = w) → J 0 z (nI (f + 1)) 0 a1 a2 (upd b3 (f + 1) v) c4 c5 c6) : wX_replay_26 post J x2 0 (nI f) 0 a1 a2 b3 b4 b5 b6 := by
  unfold wX_replay_26
  have e40 : (40 : Int32) + nI f = nI (40 + f) := nI_add 40 f
  rw [e40, nI_clamp (show f < 2 ^ 31 by omega), nI_clamp (show 40 + f < 2 ^ 31 by omega), nI_1, nI_clamp (show f + 1 < 2 ^ 31 by omega)]
  refine ⟨pk_in f 41 (by omega), pk_in f 80 (by omega), pk_in (40 + f) 80 (by omega), rg_stp (fun c4 c5 c6 => ?_)⟩
  rw [hv]
  dsimp only
  rw [hw]
  exact ⟨pk_in (f + 1) 41 (by omega), br_c (fun g => rg_r75 hf (H 0 c4 c5 c6 (fun _ => g))) (fun g => rg_r75 hf (H 1 c4 c5 c6 (fun q => absurd q (by decide))))⟩
theorem rg_r8 (hu : up ≤ 40)
    (hD : ∀ j, fr ≤ j → j < 40 → rg_step (D j) (a2 j) (a2 (40 + j)) = D (j + 1))
    (hE : ∀ f, fr < f → up ≤ f → f ≤ 40 → D f = a3 f → ∀ j, f < j → j ≤ 40 → D j = a3 j)
    (H : ∀ b3 b4 b5 b6 : Nat → Int32, (∀ j, j ≤ 40 → b3 j = D j) → post 0 (0, a1, a2, b3, b4, b5, b6)) :
    ∀ (n f : Nat) (z : Int32) (b3 b4 b5 b6 : Nat → Int32), 40 < n + f → fr ≤ f → f ≤ 40 → (∀ j, j ≤ f → b3 j = D j) → (∀ j, f < j → j ≤ 40 → b3 j = a3 j) → (z = 0 → fr < f ∧ D f = a3 f) →
      wX_replay_8 post (nI up) n 0 z (nI f) 0 a1 a2 b3 b4 b5 b6 := by
  intro n
  induction n with
  | zero => intro f z b3 b4 b5 b6 h1 h2 h3; exact absurd h1 (by omega)
  | succ n ih =>
    intro f z b3 b4 b5 b6 h1 h2 h3 i1 i2 i3
    have go : f < 40 → wX_replay_26 post (wX_replay_8 post (nI up) n) (nI up) 0 (nI f) 0 a1 a2 b3 b4 b5 b6 := by
      intro hf
      refine rg_r26 (v := D (f + 1)) (w := a3 (f + 1)) hf ?_ (i2 (f + 1) (by omega) (by omega)) (fun z' c4 c5 c6 hz => ?_)
      · rw [i1 f (Nat.le_refl f)]
        exact hD f h2 hf
      · refine ih (f + 1) z' _ c4 c5 c6 (by omega) (by omega) (by omega) (fun j hj => ?_) (fun j hj hj2 => ?_) (fun q => ⟨by omega, hz q⟩)
        · by_cases e : j = f + 1
          · rw [e, pk_us]
          · rw [pk_un e]
            exact i1 j (by omega)
        · rw [pk_un (by omega)]
          exact i2 j (by omega) hj2
    refine pk_le 40 f (fun q => H b3 b4 b5 b6 (fun j hj => i1 j (by omega))) (fun q => pk_lt f up (fun _ => go q) (fun q2 => br_c (fun q3 => H b3 b4 b5 b6 (fun j hj => ?_)) (fun _ => go q)))
    by_cases e : j ≤ f
    · exact i1 j e
    · rw [i2 j (by omega) hj, hE f (i3 q3).1 q2 h3 (i3 q3).2 j (by omega) hj]
theorem rg_replay {a4 a5 a6 : Nat → Int32} (hf : fr ≤ 40) (hu : up ≤ 40)
    (hD : ∀ j, fr ≤ j → j < 40 → rg_step (D j) (a2 j) (a2 (40 + j)) = D (j + 1))
    (hE : ∀ f, fr < f → up ≤ f → f ≤ 40 → D f = a3 f → ∀ j, f < j → j ≤ 40 → D j = a3 j)
    (h0 : ∀ j, j ≤ fr → a3 j = D j)
    (H : ∀ b3 b4 b5 b6 : Nat → Int32, (∀ j, j ≤ 40 → b3 j = D j) → post 0 (0, a1, a2, b3, b4, b5, b6)) :
    wpX_replay post (0, a1, a2, a3, a4, a5, a6) (nI fr) (nI up) := by
  unfold wpX_replay
  exact ⟨41, rg_r8 hu hD hE H 41 fr 1 a3 a4 a5 a6 (by omega) (Nat.le_refl fr) hf h0 (fun j _ _ => rfl) (fun q => absurd q (by decide))⟩
end
theorem rg_rest : rg_step 5572 0 0 = 5572 := by decide +kernel
theorem rg_init {post : St2 → Prop} (H : ∀ b3 b4 b5 b6 : Nat → Int32, (∀ j, j ≤ 40 → b3 j = 5572) → post (0, (fun _ => 0), (fun _ => 0), b3, b4, b5, b6)) : wpX_init post 6 207 0 := by
  unfold wpX_init
  refine ⟨by decide, by decide, by decide, by decide, by decide, by decide, by decide, by decide, by decide, by decide, by decide, by decide, nm_e ?_⟩
  refine rg_replay (fr := 0) (up := 40) (D := fun _ => 5572) (by omega) (by omega) (fun j _ _ => rg_rest) (fun f h1 h2 h3 h4 j h5 h6 => absurd h5 (by omega)) (fun j hj => ?_) (fun b3 b4 b5 b6 h => ?_)
  · rw [show j = 0 by omega]
    exact pk_us
  · exact H b3 b4 b5 b6 h
end
section
/-! arrive: a move comes in, is used from its frame on, and the fields behind it are played anew -/
/-- the move that is guessed behind a move m -/
def rg_tl (m : Nat) : Nat := if m = 3 then 0 else m
/-- the frame behind the last one whose used move has changed, when frames below f are through -/
def rg_C (fr m f : Nat) : Nat := if m = 0 then fr else if m = 3 then fr + 1 else f
/-- the moves used, c the move's cell, when cells below e are through -/
def rg_V (c e m j : Nat) : Int32 := if j = c then nI m else if c < j ∧ j < e then nI (rg_tl m) else 0
/-- the field k frames behind the move's own frame -/
def rg_T (p m k : Nat) : Nat :=
  if m = 1 then (if p = 0 then 5570 + (2 - k) else 5502 + 10 * max 3 (7 - k))
  else if m = 2 then (if p = 0 then 5570 + min 6 (2 + k) else 5502 + 10 * min 9 (7 + k))
  else if m = 3 then 5572 + (if p = 0 then 10000 else 100000) * (if k = 0 then 0 else 3 - k)
  else 5572
theorem rg_gs : ∀ m, m < 4 → (if nI m = 3 then 0 else nI m) = nI (rg_tl m) ∧ (if nI (rg_tl m) = 3 then 0 else nI (rg_tl m)) = nI (rg_tl m) ∧ (nI (rg_tl m)).toInt8.toInt32 = nI (rg_tl m) ∧ (nI m).toInt8.toInt32 = nI m ∧ rg_tl m < 4 := by decide +kernel
theorem rg_tab0 : ∀ k, k < 40 → ∀ m, m < 4 → rg_step (nI (rg_T 0 m k)) (nI (if k = 0 then m else rg_tl m)) 0 = nI (rg_T 0 m (k + 1)) := by decide +kernel
theorem rg_tab1 : ∀ k, k < 40 → ∀ m, m < 4 → rg_step (nI (rg_T 1 m k)) 0 (nI (if k = 0 then m else rg_tl m)) = nI (rg_T 1 m (k + 1)) := by decide +kernel
theorem rg_tabE : ∀ p, p < 2 → ∀ k, k < 41 → 0 < k → nI (rg_T p 3 k) = 5572 → 3 ≤ k := by decide +kernel
theorem rg_T0 : ∀ p, p < 2 → ∀ m, m < 4 → nI (rg_T p m 0) = 5572 := by decide +kernel
theorem rg_T3 (p : Nat) {k : Nat} (h : 3 ≤ k) : nI (rg_T p 3 k) = 5572 := by
  have e : rg_T p 3 k = 5572 := by
    unfold rg_T
    rw [if_neg (by decide), if_neg (by decide), if_pos rfl, if_neg (show ¬ k = 0 by omega), show 3 - k = 0 by omega, Nat.mul_zero]
  rw [e]
  rfl
theorem rg_Tz (p k : Nat) : nI (rg_T p 0 k) = 5572 := rfl
theorem rg_ix (p f : Nat) : nI p * 40 + nI f = nI (p * 40 + f) := by
  rw [show (40 : Int32) = nI 40 from rfl, pk_mul, nI_add]
theorem rg_isPc {post : Int32 → Prop} {x : Int32} (h1 : x = 0 ∨ x = 1 → post 1) (h0 : ¬ x = 0 → ¬ x = 1 → post 0) : wpX_isPlayer post () x := by
  unfold wpX_isPlayer
  exact br_c (fun g => h1 (Or.inl g)) (fun g => br_c (fun g2 => h1 (Or.inr g2)) (fun g2 => h0 g g2))
theorem rg_isP {post : Int32 → Prop} {p : Nat} (hp : p < 2) (H : post 1) : wpX_isPlayer post () (nI p) := by
  refine rg_isPc (fun _ => H) (fun g g2 => ?_)
  rcases (show p = 0 ∨ p = 1 by omega) with e | e
  · subst e
    exact absurd nI_0 g
  · subst e
    exact absurd (show nI 1 = 1 from rfl) g2
theorem rg_isFc {post : Int32 → Prop} {x : Int32} (h1 : ¬ x < 0 → ¬ 40 ≤ x → post 1) (h0 : x < 0 ∨ 40 ≤ x → post 0) : wpX_isFrame post () x := by
  unfold wpX_isFrame
  exact br_c (fun g => h0 (Or.inl g)) (fun g => br_c (fun g2 => h0 (Or.inr g2)) (fun g2 => h1 g g2))
theorem rg_isF {post : Int32 → Prop} {f : Nat} (hf : f < 40) (H : post 1) : wpX_isFrame post () (nI f) := by
  refine rg_isFc (fun _ _ => H) (fun g => ?_)
  rcases g with g | g
  · exact absurd g (nI_pos (by omega))
  · exact absurd g (nI_ge (b := 40) hf (by decide))
theorem rg_guess {post : Int32 → Prop} {pc : Int32} {a1 a2 a3 a4 a5 a6 : Nat → Int32} {p f : Nat} (hp : p < 2) (hf : f + 1 < 40) (H : post (if a2 (p * 40 + f) = 3 then 0 else a2 (p * 40 + f))) : wpX_guess post (pc, a1, a2, a3, a4, a5, a6) (nI p) (nI (f + 1)) := by
  unfold wpX_guess
  dsimp only
  rw [rg_ix, show p * 40 + (f + 1) = p * 40 + f + 1 by omega, nI_pred, nI_clamp (show p * 40 + f < 2 ^ 31 by omega)]
  refine br_f (nI_ne0 (by omega) (by omega)) ⟨pk_in (p * 40 + f) 80 (by omega), ?_⟩
  unfold wX_guess_21
  refine br_c (fun g => ?_) (fun g => ?_)
  · rw [if_pos g] at H
    exact H
  · rw [if_neg g] at H
    exact H
theorem rg_Vx {c e m j : Nat} (h : rg_tl m = 0) : rg_V c (e + 1) m j = rg_V c e m j := by
  unfold rg_V
  rw [h]
  by_cases e1 : j = c
  · rw [if_pos e1, if_pos e1]
  · rw [if_neg e1, if_neg e1]
    by_cases e2 : c < j ∧ j < e
    · rw [if_pos e2, nI_0, ite_self]
    · rw [if_neg e2, nI_0, ite_self]
theorem rg_Vu {c e m j : Nat} {b : Nat → Int32} (hc : c < e) (h : ∀ j, b j = rg_V c e m j) : upd b e (nI (rg_tl m)) j = rg_V c (e + 1) m j := by
  by_cases g : j = e
  · subst g
    rw [pk_us]
    unfold rg_V
    rw [if_neg (by omega), if_pos (by omega)]
  · rw [pk_un g, h j]
    unfold rg_V
    by_cases e1 : j = c
    · rw [if_pos e1, if_pos e1]
    · rw [if_neg e1, if_neg e1]
      by_cases e2 : c < j ∧ j < e
      · rw [if_pos e2, if_pos (by omega)]
      · rw [if_neg e2, if_neg (by omega)]
section
variable {post : Int32 → St2 → Prop} {a1 a2 a3 a4 a5 a6 : Nat → Int32} {p fr m : Nat}
theorem rg_u42 (hp : p < 2) (hf : fr < 40) (hm : m < 4) (ha : ∀ j, j ≠ p * 40 + fr → a1 j = 0)
    (H : ∀ b2 : Nat → Int32, (∀ j, b2 j = rg_V (p * 40 + fr) (p * 40 + 40) m j) → post (nI (rg_C fr m 40)) (0, a1, b2, a3, a4, a5, a6)) :
    ∀ (n f : Nat) (b2 : Nat → Int32), 40 < n + f → fr < f → f ≤ 40 → (∀ j, b2 j = rg_V (p * 40 + fr) (p * 40 + f) m j) → wX_use_42 post (nI p) 0 n (nI (rg_C fr m f)) (nI f) a1 b2 a3 a4 a5 a6 := by
  intro n
  induction n with
  | zero => intro f b2 h1 h2 h3; exact absurd h1 (by omega)
  | succ n ih =>
    intro f b2 h1 h2 h3 i1
    obtain ⟨t1, t2, t3, _, t5⟩ := rg_gs m hm
    refine pk_le 40 f (fun q => ?_) (fun q => ?_)
    · have e : f = 40 := by omega
      subst e
      exact H b2 i1
    · rw [rg_ix, nI_clamp (show p * 40 + f < 2 ^ 31 by omega)]
      refine ⟨pk_in (p * 40 + f) 80 (by omega), br_t (ha _ (by omega)) ?_⟩
      obtain ⟨g, rfl⟩ : ∃ g, f = g + 1 := ⟨f - 1, by omega⟩
      refine rg_guess hp q ?_
      have eg : (if b2 (p * 40 + g) = 3 then 0 else b2 (p * 40 + g)) = nI (rg_tl m) := by
        rw [i1 (p * 40 + g)]
        unfold rg_V
        by_cases e : p * 40 + g = p * 40 + fr
        · rw [if_pos e]
          exact t1
        · rw [if_neg e, if_pos (show p * 40 + fr < p * 40 + g ∧ p * 40 + g < p * 40 + (g + 1) by omega)]
          exact t2
      have ev : b2 (p * 40 + (g + 1)) = 0 := by
        rw [i1]
        unfold rg_V
        rw [if_neg (by omega), if_neg (by omega)]
      rw [eg]
      rw [ev, t3]
      refine ⟨pk_in (p * 40 + (g + 1)) 80 (by omega), pk_eq 0 (rg_tl m) (fun q2 => nm_r (nI_1 (g + 1)) ?_) (fun q2 => ⟨pk_in (p * 40 + (g + 1)) 80 (by omega), nm_e (nm_r (nI_1 (g + 1)) (nm_r (nI_1 (g + 1)) ?_))⟩)⟩
      · have k := ih (g + 1 + 1) b2 (by omega) (by omega) (by omega) (fun j => by rw [show p * 40 + (g + 1 + 1) = p * 40 + (g + 1) + 1 by omega, rg_Vx q2.symm]; exact i1 j)
        have ec : rg_C fr m (g + 1 + 1) = rg_C fr m (g + 1) := by
          unfold rg_tl at q2
          unfold rg_C
          by_cases e0 : m = 0
          · rw [if_pos e0, if_pos e0]
          · by_cases e3 : m = 3
            · rw [if_neg e0, if_neg e0, if_pos e3, if_pos e3]
            · rw [if_neg e3] at q2
              exact absurd q2.symm e0
        rw [ec] at k
        exact k
      · have k := ih (g + 1 + 1) (upd b2 (p * 40 + (g + 1)) (nI (rg_tl m))) (by omega) (by omega) (by omega) (fun j => by rw [show p * 40 + (g + 1 + 1) = p * 40 + (g + 1) + 1 by omega]; exact rg_Vu (by omega) i1)
        have ec : rg_C fr m (g + 1 + 1) = g + 1 + 1 := by
          unfold rg_tl at q2
          unfold rg_C
          by_cases e3 : m = 3
          · rw [if_pos e3] at q2
            exact absurd rfl q2
          · rw [if_neg e3] at q2
            rw [if_neg (fun z => q2 z.symm), if_neg e3]
        rw [ec] at k
        exact k
theorem rg_u26 {z : Int32} (hp : p < 2) (hf : fr < 40) (hm : m < 4) (ha : ∀ j, j ≠ p * 40 + fr → a1 j = 0) (h2 : ∀ j, a2 j = 0) (hz : z = nI (rg_C fr m (fr + 1)))
    (H : ∀ b2 : Nat → Int32, (∀ j, b2 j = rg_V (p * 40 + fr) (p * 40 + 40) m j) → post (nI (rg_C fr m 40)) (0, a1, b2, a3, a4, a5, a6)) :
    wX_use_26 post (nI p) (nI fr) (nI m) (nI (p * 40 + fr)) z 0 a1 a2 a3 a4 a5 a6 := by
  obtain ⟨_, _, _, t4, _⟩ := rg_gs m hm
  unfold wX_use_26
  rw [nI_clamp (show p * 40 + fr < 2 ^ 31 by omega), t4, hz]
  refine ⟨pk_in (p * 40 + fr) 80 (by omega), nm_e (nm_r (nI_1 fr) ⟨41, rg_u42 hp hf hm ha H 41 (fr + 1) _ (by omega) (by omega) (by omega) (fun j => ?_)⟩)⟩
  unfold rg_V
  by_cases e : j = p * 40 + fr
  · rw [if_pos e, e, pk_us]
  · rw [if_neg e, pk_un e, if_neg (by omega), h2]
theorem rg_use (hp : p < 2) (hf : fr < 40) (hm : m < 4) (ha : ∀ j, j ≠ p * 40 + fr → a1 j = 0) (h2 : ∀ j, a2 j = 0)
    (H : ∀ b2 : Nat → Int32, (∀ j, b2 j = rg_V (p * 40 + fr) (p * 40 + 40) m j) → post (nI (rg_C fr m 40)) (0, a1, b2, a3, a4, a5, a6)) :
    wpX_use post (0, a1, a2, a3, a4, a5, a6) (nI p) (nI fr) (nI m) := by
  unfold wpX_use
  dsimp only
  refine nm_r (rg_ix p fr) ⟨pk_in (p * 40 + fr) 80 (by omega), ?_⟩
  rw [nI_clamp (show p * 40 + fr < 2 ^ 31 by omega), h2]
  refine pk_eq 0 m (fun q => rg_u26 hp hf hm ha h2 ?_ H) (fun q => rg_u26 hp hf hm ha h2 ?_ H)
  · unfold rg_C
    rw [if_pos q.symm]
  · unfold rg_C
    rw [if_neg (fun z => q z.symm), ite_self, nI_1]
theorem rg_arr (hp : p < 2) (hf : fr < 40) (hm : m < 4) (h3 : ∀ j, j ≤ 40 → a3 j = 5572)
    (H : ∀ b2 b3 b4 b5 b6 : Nat → Int32, (∀ j, b2 j = rg_V (p * 40 + fr) (p * 40 + 40) m j) → (∀ j, j ≤ 40 → b3 j = nI (rg_T p m (j - fr))) → post 0 (0, upd (fun _ => 0) (p * 40 + fr) 1, b2, b3, b4, b5, b6)) :
    wpX_arrive post (0, (fun _ => 0), (fun _ => 0), a3, a4, a5, a6) (nI p) (nI fr) (nI m) := by
  unfold wpX_arrive
  dsimp only
  rw [rg_ix, nI_clamp (show p * 40 + fr < 2 ^ 31 by omega)]
  refine rg_isP hp (br_f (by decide) (rg_isF hf (br_f (by decide) (br_f (nI_pos (by omega)) (br_f (nI_nlt (a := 3) (b := m) (by omega) (by decide)) ⟨pk_in (p * 40 + fr) 80 (by omega), br_t rfl ⟨pk_in (p * 40 + fr) 80 (by omega), nm_e ?_⟩⟩)))))
  refine rg_use hp hf hm (fun j hj => pk_un hj) (fun _ => rfl) (fun b2 hb => ?_)
  dsimp only
  have hC : rg_C fr m 40 ≤ 40 := by
    unfold rg_C
    split
    · omega
    · split <;> omega
  refine pk_le (rg_C fr m 40) fr (fun q => ?_) (fun q => ?_)
  · refine H b2 a3 a4 a5 a6 hb (fun j hj => ?_)
    have e0 : m = 0 := by
      unfold rg_C at q
      by_cases e0 : m = 0
      · exact e0
      · rw [if_neg e0] at q
        split at q <;> omega
    rw [e0, rg_Tz, h3 j hj]
  · refine rg_replay (D := fun j => nI (rg_T p m (j - fr))) (by omega) hC (fun j hj hj2 => ?_) (fun f g1 g2 g3 g4 j g5 g6 => ?_) (fun j hj => ?_) (fun b3 b4 b5 b6 hb3 => H b2 b3 b4 b5 b6 hb hb3)
    · rw [hb, hb]
      have ek : j + 1 - fr = j - fr + 1 := by omega
      have eV : rg_V (p * 40 + fr) (p * 40 + 40) m (p * 40 + j) = nI (if j - fr = 0 then m else rg_tl m) := by
        unfold rg_V
        by_cases e : j = fr
        · rw [if_pos (by omega), if_pos (by omega)]
        · rw [if_neg (by omega), if_pos (by omega), if_neg (by omega)]
      rcases (show p = 0 ∨ p = 1 by omega) with e | e
      · subst e
        have eZ : rg_V (0 * 40 + fr) (0 * 40 + 40) m (40 + j) = 0 := by
          unfold rg_V
          rw [if_neg (by omega), if_neg (by omega)]
        rw [show 0 * 40 + j = j by omega] at eV
        rw [eV, eZ, ek]
        exact rg_tab0 (j - fr) (by omega) m hm
      · subst e
        have eZ : rg_V (1 * 40 + fr) (1 * 40 + 40) m j = 0 := by
          unfold rg_V
          rw [if_neg (by omega), if_neg (by omega)]
        rw [show 1 * 40 + j = 40 + j by omega] at eV
        rw [eV, eZ, ek]
        exact rg_tab1 (j - fr) (by omega) m hm
    · rw [h3 j g6]
      rw [h3 f g3] at g4
      by_cases e0 : m = 0
      · rw [e0, rg_Tz]
      · by_cases e3 : m = 3
        · subst e3
          have z := rg_tabE p hp (f - fr) (by omega) (by omega) g4
          exact rg_T3 p (by omega)
        · unfold rg_C at g2
          rw [if_neg e0, if_neg e3] at g2
          exact absurd g5 (by omega)
    · rw [h3 j (by omega), show j - fr = 0 by omega, rg_T0 p hp m hm]
theorem rg_arrN {u : St2} {x0 x1 x2 : Int32} (h : (¬ x0 = 0 ∧ ¬ x0 = 1) ∨ x1 < 0 ∨ 40 ≤ x1 ∨ x2 < 0 ∨ 3 < x2) (H : post (-1) u) : wpX_arrive post u x0 x1 x2 := by
  obtain ⟨pc, a1, a2, a3, a4, a5, a6⟩ := u
  unfold wpX_arrive
  dsimp only
  refine rg_isPc (fun q => br_f (by decide) (rg_isFc (fun q1 q2 => br_f (by decide) (br_c (fun _ => H) (fun q3 => br_c (fun _ => H) (fun q4 => absurd h ?_)))) (fun _ => br_t rfl H))) (fun _ _ => br_t rfl H)
  intro z
  rcases z with z | z | z | z | z
  · exact q.elim z.1 z.2
  · exact q1 z
  · exact q2 z
  · exact q3 z
  · exact q4 z
end
end
section
/-! looking: move, missing, shown, winner, position -/
section
variable {post : Int32 → Prop} {pc : Int32} {a1 a2 a3 a4 a5 a6 : Nat → Int32} {p f n : Nat}
theorem rg_mv (hp : p < 2) (H : post (a2 (p * 40 + 39))) : wpX_move post (pc, a1, a2, a3, a4, a5, a6) (nI p) 39 := by
  unfold wpX_move
  dsimp only
  have e : nI p * 40 + 39 = nI (p * 40 + 39) := rg_ix p 39
  rw [e, nI_clamp (show p * 40 + 39 < 2 ^ 31 by omega)]
  exact rg_isP hp (br_f (by decide) (rg_isF (f := 39) (by omega) (br_f (by decide) ⟨pk_in (p * 40 + 39) 80 (by omega), H⟩)))
theorem rg_mvN {u : St2} {x y : Int32} (h0 : ¬ x = 0) (h1 : ¬ x = 1) (H : post (-1)) : wpX_move post u x y := by
  obtain ⟨pc, a1, a2, a3, a4, a5, a6⟩ := u
  unfold wpX_move
  dsimp only
  exact rg_isPc (fun q => q.elim (fun z => absurd z h0) (fun z => absurd z h1)) (fun _ _ => br_t rfl H)
theorem rg_fm (hp : p < 2) (hf : f < 40) (h : a1 (p * 40 + f) = 0) (H : post (nI f)) : wX_firstMissing_2 post (nI p) pc a1 a2 a3 a4 a5 a6 (n + 1) (nI f) := by
  refine br_f (nI_ge (b := 40) hf (by decide)) ?_
  rw [rg_ix, nI_clamp (show p * 40 + f < 2 ^ 31 by omega)]
  exact ⟨pk_in (p * 40 + f) 80 (by omega), br_t h H⟩
theorem rg_fmS (hp : p < 2) (hf : f < 40) (h : ¬ a1 (p * 40 + f) = 0) (H : wX_firstMissing_2 post (nI p) pc a1 a2 a3 a4 a5 a6 n (nI (f + 1))) : wX_firstMissing_2 post (nI p) pc a1 a2 a3 a4 a5 a6 (n + 1) (nI f) := by
  refine br_f (nI_ge (b := 40) hf (by decide)) ?_
  rw [rg_ix, nI_clamp (show p * 40 + f < 2 ^ 31 by omega)]
  exact ⟨pk_in (p * 40 + f) 80 (by omega), br_f h (nm_r (nI_1 f) H)⟩
theorem rg_ms0 (hp : p < 2) (h : a1 (p * 40 + 0) = 0) (H : post 0) : wpX_missing post (pc, a1, a2, a3, a4, a5, a6) (nI p) := by
  unfold wpX_missing
  dsimp only
  refine rg_isP hp (br_f (by decide) ?_)
  unfold wpX_firstMissing
  exact ⟨0 + 1, rg_fm (f := 0) hp (by omega) h (br_f (by decide) H)⟩
theorem rg_ms1 (hp : p < 2) (h : ¬ a1 (p * 40 + 0) = 0) (h1 : a1 (p * 40 + 1) = 0) (H : post 1) : wpX_missing post (pc, a1, a2, a3, a4, a5, a6) (nI p) := by
  unfold wpX_missing
  dsimp only
  refine rg_isP hp (br_f (by decide) ?_)
  unfold wpX_firstMissing
  exact ⟨0 + 1 + 1, rg_fmS (f := 0) hp (by omega) h (rg_fm (f := 1) hp (by omega) h1 (br_f (by decide) H))⟩
theorem rg_msN {u : St2} {x : Int32} (h0 : ¬ x = 0) (h1 : ¬ x = 1) (H : post (-1)) : wpX_missing post u x := by
  obtain ⟨pc, a1, a2, a3, a4, a5, a6⟩ := u
  unfold wpX_missing
  dsimp only
  exact rg_isPc (fun q => q.elim (fun z => absurd z h0) (fun z => absurd z h1)) (fun _ _ => br_t rfl H)
theorem rg_sh (hn : n ≤ 40) (H : post (a3 n)) : wpX_shown post (pc, a1, a2, a3, a4, a5, a6) (nI n) := by
  unfold wpX_shown
  dsimp only
  rw [nI_clamp (show n < 2 ^ 31 by omega)]
  exact br_f (nI_pos (by omega)) (br_t (nI_le (b := 40) hn (by decide)) ⟨pk_in n 41 (by omega), H⟩)
theorem rg_shN {u : St2} {x : Int32} (h : x < 0 ∨ ¬ x ≤ 40) (H : post (-1)) : wpX_shown post u x := by
  obtain ⟨pc, a1, a2, a3, a4, a5, a6⟩ := u
  unfold wpX_shown
  dsimp only
  exact br_c (fun _ => H) (fun q => br_f (h.resolve_left q) H)
end
section
variable {post : Int32 → St2 → Prop} {a1 a2 a3 a4 a5 a6 : Nat → Int32} {n : Nat}
theorem rg_wi {pc : Int32} (hn : n ≤ 40) (ho : ¬ (rg_dg (a3 n) 100 = 0 ∨ rg_dg (a3 n) 1000 = 0)) (H : post (-2) (pc, a1, a2, a3, a4, a5, a6)) : wpX_winner post (pc, a1, a2, a3, a4, a5, a6) (nI n) := by
  unfold wpX_winner
  dsimp only
  rw [nI_clamp (show n < 2 ^ 31 by omega)]
  exact br_f (nI_pos (by omega)) (br_t (nI_le (b := 40) hn (by decide)) ⟨pk_in n 41 (by omega), rg_over (fun q => absurd q ho) (fun _ => br_t rfl H)⟩)
theorem rg_wiN {u : St2} {x : Int32} (h : x < 0 ∨ ¬ x ≤ 40) (H : post (-1) u) : wpX_winner post u x := by
  obtain ⟨pc, a1, a2, a3, a4, a5, a6⟩ := u
  unfold wpX_winner
  dsimp only
  exact br_c (fun _ => H) (fun q => br_f (h.resolve_left q) H)
theorem rg_q0 : ((5572 : Int32) - 5572 / 10 * 10).toInt8.toInt32 = 2 := by decide +kernel
theorem rg_q1 : (rg_dg 5572 10).toInt8.toInt32 = 7 := by decide +kernel
theorem rg_po {q : Int32} (h3 : a3 0 = 5572) (H : ∀ u, post (if q = 0 then 2 else if q = 1 then 7 else (-1)) u) : wpX_position post (0, a1, a2, a3, a4, a5, a6) q := by
  unfold wpX_position
  dsimp only
  refine rg_isPc (fun z => br_f (by decide) ⟨vp_in_iff.mpr (by decide), ?_⟩) (fun z0 z1 => br_t rfl ?_)
  · rw [rg_c0, h3]
    refine rg_load (fun b4 b5 b6 p0 p1 _ _ _ _ => ?_)
    dsimp only
    rcases z with z | z
    · subst z
      rw [rg_c0, p0, rg_q0]
      rw [if_pos rfl] at H
      exact ⟨rg_i0, H _⟩
    · subst z
      rw [rg_c1, p1, rg_q1]
      rw [if_neg (by decide), if_pos rfl] at H
      exact ⟨rg_i1, H _⟩
  · rw [if_neg z0, if_neg z1] at H
    exact H _
end
end
section
/-! the law's own end: what it computes out of the script's cells, and its checks -/
def rg_wk (x13 x2 : Int32) (c : Bool) (d : Int32) : Int32 := match c with
  | false => 0
  | true => if x13 = 0 ∨ x2 = 0 ∨ x2 = 3 then 0 else d
def rg_le (x0 w : Int32) : Int32 := if x0 = 0 then (if 2 ≤ w then 0 else 2 - w) else if 4 ≤ w then 3 else 7 - w
def rg_ri (x0 w : Int32) : Int32 := if x0 = 0 then (if 4 ≤ w then 6 else 2 + w) else if 2 ≤ w then 9 else 7 + w
def rg_ds (x0 x2 w : Int32) : Int32 := if w = 0 then (if x0 = 0 then 2 else 7) else if x2 = 1 then rg_le x0 w else rg_ri x0 w
def rg_ps (x13 x2 : Int32) (c : Bool) (d : Int32) : Int32 := match c with
  | false => 0
  | true => if ¬ x13 = 0 ∧ x2 = 3 then (if d = 1 then 2 else if d = 2 then 1 else 0) else 0
def rg_du (x0 x13 x18 x19 : Int32) : Int32 := (((if ¬ x13 = 0 ∧ x0 = 0 then x18 else 2) + (10 * (if ¬ x13 = 0 ∧ x0 = 1 then x18 else 7))) + 5500) + ((if x0 = 0 then 10000 else 100000) * x19)
def rg_due (x0 x13 x2 : Int32) (c : Bool) (d : Int32) : Int32 := rg_du x0 x13 (rg_ds x0 x2 (rg_wk x13 x2 c d)) (rg_ps x13 x2 c d)
/-- the checks: what each answer must be -/
def rg_ok (x1 x2 x4 x6 x7 x8 x9 x10 x11 x12 x13 x14 x22 : Int32) : Prop :=
  x6 = (if x13 = 0 then (-1) else 0) ∧
  x7 = (if x12 = 0 then (-1) else if x13 = 0 then 0 else if x2 < 3 ∨ x1 = 39 then x2 else 0) ∧
  x8 = (if x12 = 0 then (-1) else if x13 = 0 then 0 else if x1 = 0 then 1 else 0) ∧
  x9 = (if x14 = 0 then (-1) else x22) ∧
  x10 = (if x14 = 0 then (-1) else (-2)) ∧
  x11 = (if x4 = 0 then 2 else if x4 = 1 then 7 else (-1))
section
variable {post : Int32 → St0 → Prop} {mc ms kc ks : Nat} {x0 x1 x2 x3 x4 x6 x7 x8 x9 x10 x11 x12 x13 x14 x15 x16 x18 x19 x20 x22 z0 z1 : Int32}
theorem rg_507 (e : z1 = z0) (hp : post 1 ()) : wL_lawOf_507 post mc ms z0 z1 kc ks := by
  unfold wL_lawOf_507
  exact br_t e hp
theorem rg_481 (e : z1 = z0) (e11 : x11 = (if x4 = 0 then 2 else if x4 = 1 then 7 else (-1))) (hp : post 1 ()) : wL_lawOf_481 post mc ms x4 x11 z0 z1 kc ks := by
  unfold wL_lawOf_481
  refine br_t e (br_c (fun g => rg_507 ?_ hp) (fun g => br_c (fun g2 => rg_507 ?_ hp) (fun g2 => rg_507 ?_ hp)))
  · rw [e11, if_pos g]
  · rw [e11, if_neg g, if_pos g2]
  · rw [e11, if_neg g, if_neg g2]
theorem rg_465 (e : z1 = z0) (e10 : x10 = (if x14 = 0 then (-1) else (-2))) (e11 : x11 = (if x4 = 0 then 2 else if x4 = 1 then 7 else (-1))) (hp : post 1 ()) : wL_lawOf_465 post mc ms x4 x10 x11 x14 z0 z1 kc ks := by
  unfold wL_lawOf_465
  refine br_t e (br_c (fun g => rg_481 ?_ e11 hp) (fun g => rg_481 ?_ e11 hp))
  · rw [e10, if_pos g]
  · rw [e10, if_neg g]
theorem rg_449 (e : z1 = z0) (e9 : x9 = (if x14 = 0 then (-1) else x22)) (e10 : x10 = (if x14 = 0 then (-1) else (-2))) (e11 : x11 = (if x4 = 0 then 2 else if x4 = 1 then 7 else (-1))) (hp : post 1 ()) : wL_lawOf_449 post mc ms x4 x9 x10 x11 x14 x22 z0 z1 kc ks := by
  unfold wL_lawOf_449
  refine br_t e (br_c (fun g => rg_465 ?_ e10 e11 hp) (fun g => rg_465 ?_ e10 e11 hp))
  · rw [e9, if_pos g]
  · rw [e9, if_neg g]
theorem rg_421 (e : z1 = z0) (e8 : x8 = (if x12 = 0 then (-1) else if x13 = 0 then 0 else if x1 = 0 then 1 else 0)) (e9 : x9 = (if x14 = 0 then (-1) else x22)) (e10 : x10 = (if x14 = 0 then (-1) else (-2))) (e11 : x11 = (if x4 = 0 then 2 else if x4 = 1 then 7 else (-1))) (hp : post 1 ()) : wL_lawOf_421 post mc ms x1 x4 x8 x9 x10 x11 x12 x13 x14 x22 z0 z1 kc ks := by
  unfold wL_lawOf_421 wL_lawOf_448
  refine br_t e (br_c (fun g => rg_449 ?_ e9 e10 e11 hp) (fun g => br_c (fun g2 => rg_449 ?_ e9 e10 e11 hp) (fun g2 => br_c (fun g3 => rg_449 ?_ e9 e10 e11 hp) (fun g3 => rg_449 ?_ e9 e10 e11 hp))))
  · rw [e8, if_pos g]
  · rw [e8, if_neg g, if_pos g2]
  · rw [e8, if_neg g, if_neg g2, if_pos g3]
  · rw [e8, if_neg g, if_neg g2, if_neg g3]
theorem rg_386 (e : z1 = z0) (e7 : x7 = (if x12 = 0 then (-1) else if x13 = 0 then 0 else if x2 < 3 ∨ x1 = 39 then x2 else 0)) (e8 : x8 = (if x12 = 0 then (-1) else if x13 = 0 then 0 else if x1 = 0 then 1 else 0)) (e9 : x9 = (if x14 = 0 then (-1) else x22)) (e10 : x10 = (if x14 = 0 then (-1) else (-2))) (e11 : x11 = (if x4 = 0 then 2 else if x4 = 1 then 7 else (-1))) (hp : post 1 ()) : wL_lawOf_386 post mc ms x1 x2 x4 x7 x8 x9 x10 x11 x12 x13 x14 x22 z0 z1 kc ks := by
  unfold wL_lawOf_386 wL_lawOf_420 wL_lawOf_416
  refine br_t e (br_c (fun g => rg_421 ?_ e8 e9 e10 e11 hp) (fun g => br_c (fun g2 => rg_421 ?_ e8 e9 e10 e11 hp) (fun g2 => br_c (fun g3 => rg_421 ?_ e8 e9 e10 e11 hp) (fun g3 => br_c (fun g4 => rg_421 ?_ e8 e9 e10 e11 hp) (fun g4 => rg_421 ?_ e8 e9 e10 e11 hp)))))
  · rw [e7, if_pos g]
  · rw [e7, if_neg g, if_pos g2]
  · rw [e7, if_neg g, if_neg g2, if_pos (Or.inl g3)]
  · rw [e7, if_neg g, if_neg g2, if_pos (Or.inr g4)]
  · rw [e7, if_neg g, if_neg g2, if_neg (fun q => q.elim g3 g4)]
theorem rg_368 (h : rg_ok x1 x2 x4 x6 x7 x8 x9 x10 x11 x12 x13 x14 (z1 + (z0 * x19))) (hp : post 1 ()) : wL_lawOf_368 post mc ms x1 x2 x4 x6 x7 x8 x9 x10 x11 x12 x13 x14 x19 z0 z1 kc ks := by
  unfold rg_ok at h
  obtain ⟨e6, e7, e8, e9, e10, e11⟩ := h
  unfold wL_lawOf_368
  refine nm_e (br_c (fun g => rg_386 ?_ e7 e8 e9 e10 e11 hp) (fun g => rg_386 ?_ e7 e8 e9 e10 e11 hp))
  · rw [e6, if_pos g]
  · rw [e6, if_neg g]
theorem rg_306 (h : rg_ok x1 x2 x4 x6 x7 x8 x9 x10 x11 x12 x13 x14 (rg_du x0 x13 x18 x19)) (hp : post 1 ()) : wL_lawOf_306 post mc ms x0 x1 x2 x4 x6 x7 x8 x9 x10 x11 x12 x13 x14 x18 x19 kc ks := by
  have k342 : ∀ y0 y1 : Int32, y0 = (if ¬ x13 = 0 ∧ x0 = 0 then x18 else 2) → y1 = (if ¬ x13 = 0 ∧ x0 = 1 then x18 else 7) → wL_lawOf_342 post mc ms x0 x1 x2 x4 x6 x7 x8 x9 x10 x11 x12 x13 x14 x19 y0 y1 kc ks := by
    intro y0 y1 h0 h1
    unfold rg_du at h
    rw [← h0, ← h1] at h
    unfold wL_lawOf_342
    refine br_c (fun g => ?_) (fun g => ?_)
    · rw [if_pos g] at h
      exact rg_368 h hp
    · rw [if_neg g] at h
      exact rg_368 h hp
  have k323 : ∀ y0 : Int32, y0 = (if ¬ x13 = 0 ∧ x0 = 0 then x18 else 2) → wL_lawOf_323 post mc ms x0 x1 x2 x4 x6 x7 x8 x9 x10 x11 x12 x13 x14 x18 x19 y0 kc ks := by
    intro y0 h0
    unfold wL_lawOf_323 wL_lawOf_340
    refine br_c (fun g => k342 _ _ h0 ?_) (fun g => br_c (fun g2 => k342 _ _ h0 ?_) (fun g2 => k342 _ _ h0 ?_))
    · rw [if_neg (fun q => q.1 g)]
    · rw [if_pos ⟨g, g2⟩]
    · rw [if_neg (fun q => g2 q.2)]
  unfold wL_lawOf_306 wL_lawOf_322
  refine br_c (fun g => k323 _ ?_) (fun g => br_c (fun g2 => k323 _ ?_) (fun g2 => k323 _ ?_))
  · rw [if_neg (fun q => q.1 g)]
  · rw [if_pos ⟨g, g2⟩]
  · rw [if_neg (fun q => g2 q.2)]
theorem rg_262 (h : rg_ok x1 x2 x4 x6 x7 x8 x9 x10 x11 x12 x13 x14 (rg_du x0 x13 x18 (rg_ps x13 x2 (decide (x1 < x3)) (x3 - x1)))) (hp : post 1 ()) : wL_lawOf_262 post mc ms x0 x1 x2 x3 x4 x6 x7 x8 x9 x10 x11 x12 x13 x14 x18 kc ks := by
  have k : ∀ y : Int32, y = rg_ps x13 x2 (decide (x1 < x3)) (x3 - x1) → wL_lawOf_306 post mc ms x0 x1 x2 x4 x6 x7 x8 x9 x10 x11 x12 x13 x14 x18 y kc ks := by
    intro y hy
    rw [← hy] at h
    exact rg_306 h hp
  have p0 : (x13 = 0 ∨ ¬ x2 = 3) → (0 : Int32) = rg_ps x13 x2 (decide (x1 < x3)) (x3 - x1) := by
    intro q
    cases decide (x1 < x3)
    · rfl
    · show (0 : Int32) = if ¬ x13 = 0 ∧ x2 = 3 then _ else 0
      rw [if_neg (fun z => q.elim z.1 (fun r => r z.2))]
  unfold wL_lawOf_262 wL_lawOf_305
  refine br_c (fun g => k _ (p0 (Or.inl g))) (fun g => br_c (fun g2 => br_c (fun g3 => k _ ?_) (fun g3 => ?_)) (fun g2 => k _ (p0 (Or.inr g2))))
  · rw [decide_eq_false (Int32.not_lt.mpr g3)]
    rfl
  · rw [decide_eq_true (Int32.not_le.mp g3)] at k
    have k' : ∀ y : Int32, y = (if x3 - x1 = 1 then 2 else if x3 - x1 = 2 then 1 else 0) → wL_lawOf_306 post mc ms x0 x1 x2 x4 x6 x7 x8 x9 x10 x11 x12 x13 x14 x18 y kc ks := by
      intro y hy
      refine k y ?_
      show y = if ¬ x13 = 0 ∧ x2 = 3 then (if x3 - x1 = 1 then 2 else if x3 - x1 = 2 then 1 else 0) else 0
      rw [if_pos ⟨g, g2⟩]
      exact hy
    refine br_c (fun g4 => k' _ ?_) (fun g4 => br_c (fun g5 => k' _ ?_) (fun g5 => k' _ ?_))
    · rw [if_pos g4]
    · rw [if_neg g4, if_pos g5]
    · rw [if_neg g4, if_neg g5]
theorem rg_152 (h : rg_ok x1 x2 x4 x6 x7 x8 x9 x10 x11 x12 x13 x14 (rg_du x0 x13 (rg_ds x0 x2 x15) (rg_ps x13 x2 (decide (x1 < x3)) (x3 - x1)))) (hp : post 1 ()) : wL_lawOf_152 post mc ms x0 x1 x2 x3 x4 x6 x7 x8 x9 x10 x11 x12 x13 x14 x15 kc ks := by
  have k262 : ∀ y : Int32, y = rg_ds x0 x2 x15 → wL_lawOf_262 post mc ms x0 x1 x2 x3 x4 x6 x7 x8 x9 x10 x11 x12 x13 x14 y kc ks := by
    intro y hy
    rw [← hy] at h
    exact rg_262 h hp
  have k230 : ∀ y0 y1 : Int32, y0 = rg_le x0 x15 → y1 = rg_ri x0 x15 → wL_lawOf_230 post mc ms x0 x1 x2 x3 x4 x6 x7 x8 x9 x10 x11 x12 x13 x14 x15 y0 y1 kc ks := by
    intro y0 y1 h0 h1
    unfold rg_ds at k262
    rw [← h0, ← h1] at k262
    unfold wL_lawOf_230
    refine br_c (fun g => br_c (fun g2 => k262 _ ?_) (fun g2 => k262 _ ?_)) (fun g => br_c (fun g2 => k262 _ ?_) (fun g2 => k262 _ ?_))
    · rw [if_pos g, if_pos g2]
    · rw [if_pos g, if_neg g2]
    · rw [if_neg g, if_pos g2]
    · rw [if_neg g, if_neg g2]
  have k190 : ∀ y0 : Int32, y0 = rg_le x0 x15 → wL_lawOf_190 post mc ms x0 x1 x2 x3 x4 x6 x7 x8 x9 x10 x11 x12 x13 x14 x15 y0 kc ks := by
    intro y0 h0
    unfold rg_ri at k230
    unfold wL_lawOf_190
    refine br_c (fun g => br_c (fun g2 => k230 _ _ h0 ?_) (fun g2 => k230 _ _ h0 ?_)) (fun g => br_c (fun g2 => k230 _ _ h0 ?_) (fun g2 => k230 _ _ h0 ?_))
    · rw [if_pos g, if_pos g2]
    · rw [if_pos g, if_neg g2]
    · rw [if_neg g, if_pos g2]
    · rw [if_neg g, if_neg g2]
  unfold rg_le at k190
  unfold wL_lawOf_152
  refine br_c (fun g => br_c (fun g2 => k190 _ ?_) (fun g2 => k190 _ ?_)) (fun g => br_c (fun g2 => k190 _ ?_) (fun g2 => k190 _ ?_))
  · rw [if_pos g, if_pos g2]
  · rw [if_pos g, if_neg g2]
  · rw [if_neg g, if_pos g2]
  · rw [if_neg g, if_neg g2]
theorem rg_124 (h : rg_ok x1 x2 x4 x6 x7 x8 x9 x10 x11 x12 x13 x14 (rg_due x0 x13 x2 (decide (x1 < x3)) (x3 - x1))) (hp : post 1 ()) : wL_lawOf_124 post mc ms x0 x1 x2 x3 x4 x6 x7 x8 x9 x10 x11 x12 x13 x14 kc ks := by
  have k : ∀ y : Int32, y = rg_wk x13 x2 (decide (x1 < x3)) (x3 - x1) → wL_lawOf_152 post mc ms x0 x1 x2 x3 x4 x6 x7 x8 x9 x10 x11 x12 x13 x14 y kc ks := by
    intro y hy
    unfold rg_due at h
    rw [← hy] at h
    exact rg_152 h hp
  have p0 : (x13 = 0 ∨ x2 = 0 ∨ x2 = 3) → (0 : Int32) = rg_wk x13 x2 (decide (x1 < x3)) (x3 - x1) := by
    intro q
    cases decide (x1 < x3)
    · rfl
    · show (0 : Int32) = if x13 = 0 ∨ x2 = 0 ∨ x2 = 3 then 0 else _
      rw [if_pos q]
  unfold wL_lawOf_124 wL_lawOf_145
  refine br_c (fun g => k _ (p0 (Or.inl g))) (fun g => br_c (fun g2 => k _ (p0 (Or.inr (Or.inl g2)))) (fun g2 => br_c (fun g3 => k _ (p0 (Or.inr (Or.inr g3)))) (fun g3 => br_c (fun g4 => k _ ?_) (fun g4 => k _ ?_))))
  · rw [decide_eq_true g4]
    show x3 - x1 = if x13 = 0 ∨ x2 = 0 ∨ x2 = 3 then 0 else x3 - x1
    rw [if_neg (fun q => q.elim g (fun r => r.elim g2 g3))]
  · rw [decide_eq_false g4]
    rfl
/-- the frame and the move are good ones (the player is x12's) -/
def rg_gd (x12 x1 x2 : Int32) : Int32 := if ¬ x12 = 0 ∧ ¬ x1 < 0 ∧ ¬ 39 < x1 ∧ ¬ x2 < 0 ∧ ¬ 3 < x2 then 1 else 0
def rg_in (x3 : Int32) : Int32 := if ¬ x3 < 0 ∧ ¬ 40 < x3 then 1 else 0
theorem rg_76 (h : rg_ok x1 x2 x4 x6 x7 x8 x9 x10 x11 x12 (rg_gd x12 x1 x2) (rg_in x3) (rg_due x0 (rg_gd x12 x1 x2) x2 (decide (x1 < x3)) (x3 - x1))) (hp : post 1 ()) : wL_lawOf_76 post mc ms x0 x1 x2 x3 x4 x6 x7 x8 x9 x10 x11 x12 kc ks := by
  have k124 : ∀ y0 y1 : Int32, y0 = rg_gd x12 x1 x2 → y1 = rg_in x3 → wL_lawOf_124 post mc ms x0 x1 x2 x3 x4 x6 x7 x8 x9 x10 x11 x12 y0 y1 kc ks := by
    intro y0 y1 h0 h1
    rw [← h0, ← h1] at h
    exact rg_124 h hp
  have k107 : ∀ y0 : Int32, y0 = rg_gd x12 x1 x2 → wL_lawOf_107 post mc ms x0 x1 x2 x3 x4 x6 x7 x8 x9 x10 x11 x12 y0 kc ks := by
    intro y0 h0
    unfold wL_lawOf_107 wL_lawOf_123
    unfold rg_in at k124
    refine br_c (fun g => k124 _ _ h0 ?_) (fun g => br_c (fun g2 => k124 _ _ h0 ?_) (fun g2 => k124 _ _ h0 ?_))
    · rw [if_neg (fun q => q.1 g)]
    · rw [if_neg (fun q => q.2 g2)]
    · rw [if_pos ⟨g, g2⟩]
  unfold rg_gd at k107
  unfold wL_lawOf_76 wL_lawOf_106
  refine br_c (fun g => k107 _ ?_) (fun g => br_c (fun g2 => k107 _ ?_) (fun g2 => br_c (fun g3 => k107 _ ?_) (fun g3 => br_c (fun g4 => k107 _ ?_) (fun g4 => br_c (fun g5 => k107 _ ?_) (fun g5 => k107 _ ?_)))))
  · rw [if_neg (fun q => q.1 g)]
  · rw [if_neg (fun q => q.2.1 g2)]
  · rw [if_neg (fun q => q.2.2.1 g3)]
  · rw [if_neg (fun q => q.2.2.2.1 g4)]
  · rw [if_neg (fun q => q.2.2.2.2 g5)]
  · rw [if_pos ⟨g, g2, g3, g4, g5⟩]
end
end
section
/-! the walk through lawOf, and the owed statement -/
def rg_pl (x0 : Int32) : Int32 := if x0 = 0 ∨ x0 = 1 then 1 else 0
theorem rg_tabT : ∀ p, p < 2 → ∀ m, m < 4 → ∀ k, k < 41 → 0 < k → rg_due (nI p) 1 (nI m) true (nI k) = nI (rg_T p m k) := by decide +kernel
theorem rg_tabF : ∀ p, p < 2 → ∀ m, m < 4 → rg_due (nI p) 1 (nI m) false 0 = nI (rg_T p m 0) := by decide +kernel
theorem rg_tabO : ∀ p, p < 2 → ∀ m, m < 4 → ∀ k, k < 41 → ¬ (rg_dg (nI (rg_T p m k)) 100 = 0 ∨ rg_dg (nI (rg_T p m k)) 1000 = 0) := by decide +kernel
theorem rg_tabM : ∀ m, m < 4 → (if nI m < 3 then nI m else 0) = nI (rg_tl m) := by decide +kernel
theorem rg_due0 (x0 x2 : Int32) (c : Bool) (d : Int32) : rg_due x0 0 x2 c d = 5572 := by
  have e : rg_ps 0 x2 c d = 0 := by
    cases c
    · rfl
    · have n : ¬ (¬ (0 : Int32) = 0 ∧ x2 = 3) := fun q => q.1 rfl
      show (if ¬ (0 : Int32) = 0 ∧ x2 = 3 then (if d = 1 then (2 : Int32) else if d = 2 then 1 else 0) else 0) = 0
      rw [if_neg n]
  unfold rg_due rg_du
  rw [e, if_neg (fun q => q.1 rfl), if_neg (fun q => q.1 rfl)]
  by_cases g : x0 = 0
  · rw [if_pos g]
    decide
  · rw [if_neg g]
    decide
theorem rg_39 {x : Int32} (h : 39 < x) : 40 ≤ x := by
  rw [Int32.lt_iff_toInt_lt] at h
  rw [Int32.le_iff_toInt_le]
  have e1 : (39 : Int32).toInt = 39 := by decide
  have e2 : (40 : Int32).toInt = 40 := by decide
  omega
theorem rg_cell {post : Int32 → Prop} {L : Nat} {xs : Nat → Int32} (k : Nat) (hL : L ≤ 5) (hk : k < 5) (H : ∀ r, post r) : wpL_cellAt post L xs () (nI k) := by
  unfold wpL_cellAt
  exact pk_le L k (fun _ => H 0) (fun q => ⟨pk_in k L q, H _⟩)
theorem rg_inN {n : Nat} (h : n ≤ 40) : rg_in (nI n) = 1 := by
  unfold rg_in
  rw [if_pos ⟨nI_pos (by omega), nI_nlt (a := 40) (b := n) h (by decide)⟩]
section
variable {c1 c2 c3 c4 c5 c6 : Nat → Int32} {x0 x3 due : Int32}
theorem rg_lk9 {post : Int32 → Prop} (hd : ∀ n, n ≤ 40 → x3 = nI n → c3 n = due) (H : post (if rg_in x3 = 0 then (-1) else due)) : wpX_shown post (0, c1, c2, c3, c4, c5, c6) x3 := by
  by_cases g : ¬ x3 < 0 ∧ ¬ 40 < x3
  · obtain ⟨n, hn, e⟩ := nI_of2 (n := 40) (M := 40) (by decide) g.1 (Int32.not_lt.mp g.2)
    rw [e, rg_inN hn, if_neg (by decide), ← hd n hn e] at H
    rw [e]
    exact rg_sh hn H
  · rw [show rg_in x3 = 0 from if_neg g, if_pos rfl] at H
    refine rg_shN ?_ H
    by_cases g2 : x3 < 0
    · exact Or.inl g2
    · exact Or.inr (fun q => g ⟨g2, Int32.not_lt.mpr q⟩)
theorem rg_lk10 {post : Int32 → St2 → Prop} (ho : ∀ n, n ≤ 40 → ¬ (rg_dg (c3 n) 100 = 0 ∨ rg_dg (c3 n) 1000 = 0)) (H : post (if rg_in x3 = 0 then (-1) else (-2)) (0, c1, c2, c3, c4, c5, c6)) : wpX_winner post (0, c1, c2, c3, c4, c5, c6) x3 := by
  by_cases g : ¬ x3 < 0 ∧ ¬ 40 < x3
  · obtain ⟨n, hn, e⟩ := nI_of2 (n := 40) (M := 40) (by decide) g.1 (Int32.not_lt.mp g.2)
    rw [e, rg_inN hn, if_neg (by decide)] at H
    rw [e]
    exact rg_wi hn (ho n hn) H
  · rw [show rg_in x3 = 0 from if_neg g, if_pos rfl] at H
    refine rg_wiN ?_ H
    by_cases g2 : x3 < 0
    · exact Or.inl g2
    · exact Or.inr (fun q => g ⟨g2, Int32.not_lt.mpr q⟩)
theorem rg_plE (x : Int32) : (∃ p, p < 2 ∧ x = nI p ∧ rg_pl x = 1) ∨ (¬ x = 0 ∧ ¬ x = 1 ∧ rg_pl x = 0) := by
  unfold rg_pl
  by_cases g : x = 0
  · exact Or.inl ⟨0, by omega, g, if_pos (Or.inl g)⟩
  · by_cases g2 : x = 1
    · exact Or.inl ⟨1, by omega, g2, if_pos (Or.inr g2)⟩
    · exact Or.inr ⟨g, g2, if_neg (fun q => q.elim g g2)⟩
theorem rg_lk7 {post : Int32 → Prop} (H : post (if rg_pl x0 = 0 then (-1) else 0)) : wpX_move post (0, c1, (fun _ => 0), c3, c4, c5, c6) x0 39 := by
  rcases rg_plE x0 with ⟨p, hp, e, e1⟩ | ⟨g, g2, e1⟩
  · rw [e1, if_neg (by decide)] at H
    rw [e]
    exact rg_mv hp H
  · rw [e1, if_pos rfl] at H
    exact rg_mvN g g2 H
theorem rg_lk8 {post : Int32 → Prop} (H : post (if rg_pl x0 = 0 then (-1) else 0)) : wpX_missing post (0, (fun _ => 0), c2, c3, c4, c5, c6) x0 := by
  rcases rg_plE x0 with ⟨p, hp, e, e1⟩ | ⟨g, g2, e1⟩
  · rw [e1, if_neg (by decide)] at H
    rw [e]
    exact rg_ms0 hp rfl H
  · rw [e1, if_pos rfl] at H
    exact rg_msN g g2 H
end
section
variable {post : Int32 → St0 → Prop} {mc ms kc ks : Nat} {x0 x1 x2 x3 x4 x6 x7 x8 x9 x10 x11 : Int32}
theorem rg_end (h : rg_ok x1 x2 x4 x6 x7 x8 x9 x10 x11 (rg_pl x0) (rg_gd (rg_pl x0) x1 x2) (rg_in x3) (rg_due x0 (rg_gd (rg_pl x0) x1 x2) x2 (decide (x1 < x3)) (x3 - x1))) (hp : post 1 ()) :
    ((x0 = 0 → (wL_lawOf_71 post mc ms x0 x1 x2 x3 x4 x6 x7 x8 x9 x10 x11 kc ks)) ∧ (¬ x0 = 0 → (((x0 = 1 → (wL_lawOf_71 post mc ms x0 x1 x2 x3 x4 x6 x7 x8 x9 x10 x11 kc ks)) ∧ (¬ x0 = 1 → (wL_lawOf_76 post mc ms x0 x1 x2 x3 x4 x6 x7 x8 x9 x10 x11 0 kc ks)))))) := by
  unfold wL_lawOf_71
  unfold rg_pl at h
  refine br_c (fun g => ?_) (fun g => br_c (fun g2 => ?_) (fun g2 => ?_))
  · rw [if_pos (Or.inl g)] at h
    exact rg_76 h hp
  · rw [if_pos (Or.inr g2)] at h
    exact rg_76 h hp
  · rw [if_neg (fun q => q.elim g g2)] at h
    exact rg_76 h hp
theorem rg_lawOf (hp : post 1 ()) : wpL_lawOf post 7 214 () x0 x1 x2 x3 x4 := by
  unfold wpL_lawOf
  refine ⟨by decide, by decide, 6, 207, by decide, by decide, rg_init (fun b3 b4 b5 b6 h3 => ?_)⟩
  dsimp only
  by_cases G : ¬ rg_pl x0 = 0 ∧ ¬ x1 < 0 ∧ ¬ 39 < x1 ∧ ¬ x2 < 0 ∧ ¬ 3 < x2
  · have egd : rg_gd (rg_pl x0) x1 x2 = 1 := if_pos G
    rcases rg_plE x0 with ⟨p, hpp, e0, e1⟩ | ⟨_, _, e1⟩
    rotate_left
    · exact absurd e1 G.1
    obtain ⟨fr, hfr, ef⟩ := nI_of2 (n := 39) (M := 39) (by decide) G.2.1 (Int32.not_lt.mp G.2.2.1)
    obtain ⟨m, hm, em⟩ := nI_of2 (n := 3) (M := 3) (by decide) G.2.2.2.1 (Int32.not_lt.mp G.2.2.2.2)
    have fin := @rg_end post 7 214 (1 + 6) (7 + 207) x0 x1 x2 x3 x4
    rw [egd, e1] at fin
    subst e0 ef em
    refine rg_arr hpp (by omega) (by omega) h3 (fun d2 d3 d4 d5 d6 hd2 hd3 => ?_)
    dsimp only
    refine rg_mv hpp ?_
    have v7 : d2 (p * 40 + 39) = (if nI m < 3 ∨ nI fr = 39 then nI m else 0) := by
      rw [hd2]
      unfold rg_V
      by_cases g : fr = 39
      · rw [if_pos (by omega), if_pos (Or.inr (by rw [g]; rfl))]
      · rw [if_neg (by omega), if_pos (by omega), ← rg_tabM m (by omega)]
        have g' : ¬ nI fr = 39 := fun z => g ((nI_eq (a := fr) (b := 39) (by omega) (by omega)).mp z)
        by_cases g2 : nI m < 3
        · rw [if_pos g2, if_pos (Or.inl g2)]
        · rw [if_neg g2, if_neg (fun q => q.elim g2 g')]
    have k8 : ∀ Q : Int32 → Prop, Q (if nI fr = 0 then 1 else 0) → wpX_missing Q (0, upd (fun _ => 0) (p * 40 + fr) 1, d2, d3, d4, d5, d6) (nI p) := by
      intro Q hQ
      by_cases g : fr = 0
      · subst g
        rw [if_pos nI_0] at hQ
        exact rg_ms1 hpp (by rw [pk_us]; decide) (pk_un (by omega)) hQ
      · rw [if_neg (nI_ne0 (by omega) (by omega))] at hQ
        exact rg_ms0 hpp (pk_un (by omega)) hQ
    refine k8 _ ?_
    refine rg_lk9 (due := rg_due (nI p) 1 (nI m) (decide (nI fr < x3)) (x3 - nI fr)) (fun n hn e => ?_) ?_
    · rw [hd3 n hn, e]
      by_cases g : fr < n
      · rw [decide_eq_true (nI_lt g (by omega)), pk_sub (by omega)]
        exact (rg_tabT p hpp m (by omega) (n - fr) (by omega) (by omega)).symm
      · rw [decide_eq_false (nI_nlt (by omega) (by omega)), show n - fr = 0 by omega]
        exact (rg_tabF p hpp m (by omega)).symm
    refine rg_lk10 (fun n hn => ?_) ?_
    · rw [hd3 n hn]
      exact rg_tabO p hpp m (by omega) (n - fr) (by omega)
    dsimp only
    refine rg_po ?_ (fun u => ?_)
    · rw [hd3 0 (by omega), Nat.zero_sub]
      exact rg_T0 p hpp m (by omega)
    obtain ⟨w0, w1, w2, w3, w4, w5, w6⟩ := u
    refine fin ⟨(if_neg (by decide)).symm, ?_, ?_, rfl, rfl, rfl⟩ hp
    · rw [if_neg (show ¬ (1 : Int32) = 0 by decide), if_neg (show ¬ (1 : Int32) = 0 by decide)]
      exact v7
    · rw [if_neg (show ¬ (1 : Int32) = 0 by decide), if_neg (show ¬ (1 : Int32) = 0 by decide)]
  · have egd : rg_gd (rg_pl x0) x1 x2 = 0 := if_neg G
    have fin := @rg_end post 7 214 (1 + 6) (7 + 207) x0 x1 x2 x3 x4
    rw [egd, rg_due0] at fin
    refine rg_arrN ?_ ?_
    · rcases rg_plE x0 with ⟨p, hpp, e0, e1⟩ | ⟨g, g2, e1⟩
      rotate_left
      · exact Or.inl ⟨g, g2⟩
      refine Or.inr ?_
      by_cases g1 : x1 < 0
      · exact Or.inl g1
      by_cases g2 : 39 < x1
      · exact Or.inr (Or.inl (rg_39 g2))
      by_cases g3 : x2 < 0
      · exact Or.inr (Or.inr (Or.inl g3))
      by_cases g4 : 3 < x2
      · exact Or.inr (Or.inr (Or.inr g4))
      exact absurd ⟨by rw [e1]; decide, g1, g2, g3, g4⟩ G
    dsimp only
    refine rg_lk7 (rg_lk8 (rg_lk9 (due := 5572) (fun n hn _ => h3 n hn) (rg_lk10 (fun n hn => ?_) ?_)))
    · rw [h3 n hn]
      decide +kernel
    dsimp only
    refine rg_po (h3 0 (by omega)) (fun u => ?_)
    obtain ⟨w0, w1, w2, w3, w4, w5, w6⟩ := u
    exact fin ⟨(if_pos rfl).symm, by rw [if_pos rfl], by rw [if_pos rfl], rfl, rfl, rfl⟩ hp
end
theorem i_vc (xs : Nat → Int32) (L : Nat) (hL : L ≤ 5) : wpL_law (fun r => r = 1) L xs := by
  unfold wpL_law
  exact rg_cell 0 hL (by omega) (fun r1 => rg_cell 1 hL (by omega) (fun r2 => rg_cell 2 hL (by omega) (fun r3 => rg_cell 3 hL (by omega) (fun r4 => rg_cell 4 hL (by omega) (fun r5 => ⟨7, 214, by decide, by decide, rg_lawOf rfl⟩)))))
end
