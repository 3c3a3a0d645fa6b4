section
/-! the law's own tail: what it asks of the nine answers -/
def rq_cb (op x y : Int32) : Int32 := if op = 0 then x + y else if op = 1 then x - y else if op = 2 then x * y else if y ≤ x then 0 else 1
def rq_left (x16 x18 x20 : Int32) : Int32 := if x20 = 0 then (if x16 = 0 then 1 else if x18 = 0 then 2 else 3) else 0
def rq_stir (x16 x21 x22 x23 : Int32) : Int32 := if x16 = 0 then -1 else if x21 = 0 then 0 else if x22 = x23 then 0 else 1
def rq_tot (x20 x3 x24 : Int32) : Int32 := if x20 = 0 then 0 else (x3 + 1) * x24
def rq_need (x17 x21 x0 : Int32) : Int32 := if x17 = 0 then -1 else if x21 = 0 then 0 else (1 : Int32) <<< ((x0 &&& 7) &&& 31)
def rq_done (x17 x19 x16 : Int32) : Int32 := if x17 = 0 then -1 else if x19 = 1 then (if x16 = 0 then 1 else 3) else -3
def rq_third (x18 x16 : Int32) : Int32 := if x18 = 0 then -1 else if x16 = 0 then -3 else 1
def rq_second (x16 : Int32) : Int32 := if x16 = 0 then 1 else 2
def rq_first (x16 : Int32) : Int32 := if x16 = 0 then -1 else 1
def rq_due (x20 x16 x1 x22 : Int32) : Int32 := if x20 = 0 then 0 else if x16 = 0 then x1 else x22
def rq_both (x20 x16 : Int32) : Int32 := if x20 = 0 then 0 else if x16 = 0 then 0 else 1
def rq_sett (x17 x19 : Int32) : Int32 := if x17 = 0 then 0 else if x19 = 1 then 1 else 0
def rq_hgt (x16 x18 : Int32) : Int32 := if x16 = 0 then 1 else if x18 = 0 then 2 else 1
section
variable {post : Int32 → St0 → Prop} {mc ms kc ks : Nat} {x0 x1 x2 x3 x4 x5 x7 x8 x9 x10 x11 x12 x13 x14 x15 x16 x17 x18 x19 x20 x21 x22 x23 x24 z0 z1 : Int32}
theorem rq_t520 (hp : post 1 ()) (h : z1 = z0) : wL_lawOf_520 post mc ms z0 z1 kc ks := br_t h hp
theorem rq_t487 (hp : post 1 ()) (h : z1 = z0) (h15 : x15 = rq_left x16 x18 x20) : wL_lawOf_487 post mc ms x15 x16 x18 x20 z0 z1 kc ks :=
  br_t h (br_c (fun c => br_c (fun d => rq_t520 hp (by rw [h15, rq_left, if_pos c, if_pos d])) (fun d => br_c (fun e => rq_t520 hp (by rw [h15, rq_left, if_pos c, if_neg d, if_pos e])) (fun e => rq_t520 hp (by rw [h15, rq_left, if_pos c, if_neg d, if_neg e])))) (fun c => rq_t520 hp (by rw [h15, rq_left, if_neg c])))
theorem rq_t486 (hp : post 1 ()) (h : z0 = 0) (h15 : x15 = rq_left x16 x18 x20) : wL_lawOf_486 post mc ms x15 x16 x18 x20 z0 kc ks := rq_t487 hp h h15
theorem rq_t456 (hp : post 1 ()) (h : z1 = z0) (h14 : x14 = rq_stir x16 x21 x22 x23) (h15 : x15 = rq_left x16 x18 x20) : wL_lawOf_456 post mc ms x14 x15 x16 x18 x20 x21 x22 x23 z0 z1 kc ks :=
  br_t h (br_c (fun c => rq_t487 hp (by rw [h14, rq_stir, if_pos c]) h15) (fun c => br_c (fun d => rq_t486 hp (by rw [h14, rq_stir, if_neg c, if_pos d]) h15) (fun d => br_c (fun e => rq_t486 hp (by rw [h14, rq_stir, if_neg c, if_neg d, if_pos e]) h15) (fun e => rq_t487 hp (by rw [h14, rq_stir, if_neg c, if_neg d, if_neg e]) h15))))
theorem rq_t436 (hp : post 1 ()) (h : z1 = z0) (h13 : x13 = rq_tot x20 x3 x24) (h14 : x14 = rq_stir x16 x21 x22 x23) (h15 : x15 = rq_left x16 x18 x20) : wL_lawOf_436 post mc ms x3 x13 x14 x15 x16 x18 x20 x21 x22 x23 x24 z0 z1 kc ks :=
  br_t h (br_c (fun c => rq_t456 hp (by rw [h13, rq_tot, if_pos c]) h14 h15) (fun c => rq_t456 hp (by rw [h13, rq_tot, if_neg c]) h14 h15))
theorem rq_t400 (hp : post 1 ()) (h : z1 = z0) (h11 : x11 = x24) (h12 : x12 = rq_need x17 x21 x0) (h13 : x13 = rq_tot x20 x3 x24) (h14 : x14 = rq_stir x16 x21 x22 x23) (h15 : x15 = rq_left x16 x18 x20) : wL_lawOf_400 post mc ms x0 x3 x11 x12 x13 x14 x15 x16 x17 x18 x20 x21 x22 x23 x24 z0 z1 kc ks :=
  br_t h (br_t h11 (br_c (fun c => rq_t436 hp (by rw [h12, rq_need, if_pos c]) h13 h14 h15) (fun c => br_c (fun d => rq_t436 hp (by rw [h12, rq_need, if_neg c, if_pos d]) h13 h14 h15) (fun d => rq_t436 hp (by rw [h12, rq_need, if_neg c, if_neg d]) h13 h14 h15))))
theorem rq_t365 (hp : post 1 ()) (h : z1 = z0) (h10 : x10 = rq_done x17 x19 x16) (h11 : x11 = x24) (h12 : x12 = rq_need x17 x21 x0) (h13 : x13 = rq_tot x20 x3 x24) (h14 : x14 = rq_stir x16 x21 x22 x23) (h15 : x15 = rq_left x16 x18 x20) : wL_lawOf_365 post mc ms x0 x3 x10 x11 x12 x13 x14 x15 x16 x17 x18 x19 x20 x21 x22 x23 x24 z0 z1 kc ks :=
  br_t h (br_c (fun c => rq_t400 hp (by rw [h10, rq_done, if_pos c]) h11 h12 h13 h14 h15) (fun c => br_c (fun d => br_c (fun e => rq_t400 hp (by rw [h10, rq_done, if_neg c, if_pos d, if_pos e]) h11 h12 h13 h14 h15) (fun e => rq_t400 hp (by rw [h10, rq_done, if_neg c, if_pos d, if_neg e]) h11 h12 h13 h14 h15)) (fun d => rq_t400 hp (by rw [h10, rq_done, if_neg c, if_neg d]) h11 h12 h13 h14 h15)))
theorem rq_t340 (hp : post 1 ()) (h : z1 = z0) (h9 : x9 = rq_third x18 x16) (h10 : x10 = rq_done x17 x19 x16) (h11 : x11 = x24) (h12 : x12 = rq_need x17 x21 x0) (h13 : x13 = rq_tot x20 x3 x24) (h14 : x14 = rq_stir x16 x21 x22 x23) (h15 : x15 = rq_left x16 x18 x20) : wL_lawOf_340 post mc ms x0 x3 x9 x10 x11 x12 x13 x14 x15 x16 x17 x18 x19 x20 x21 x22 x23 x24 z0 z1 kc ks :=
  br_t h (br_c (fun c => rq_t365 hp (by rw [h9, rq_third, if_pos c]) h10 h11 h12 h13 h14 h15) (fun c => br_c (fun d => rq_t365 hp (by rw [h9, rq_third, if_neg c, if_pos d]) h10 h11 h12 h13 h14 h15) (fun d => rq_t365 hp (by rw [h9, rq_third, if_neg c, if_neg d]) h10 h11 h12 h13 h14 h15)))
theorem rq_t325 (hp : post 1 ()) (h : z1 = z0) (h8 : x8 = rq_second x16) (h9 : x9 = rq_third x18 x16) (h10 : x10 = rq_done x17 x19 x16) (h11 : x11 = x24) (h12 : x12 = rq_need x17 x21 x0) (h13 : x13 = rq_tot x20 x3 x24) (h14 : x14 = rq_stir x16 x21 x22 x23) (h15 : x15 = rq_left x16 x18 x20) : wL_lawOf_325 post mc ms x0 x3 x8 x9 x10 x11 x12 x13 x14 x15 x16 x17 x18 x19 x20 x21 x22 x23 x24 z0 z1 kc ks :=
  br_t h (br_c (fun c => rq_t340 hp (by rw [h8, rq_second, if_pos c]) h9 h10 h11 h12 h13 h14 h15) (fun c => rq_t340 hp (by rw [h8, rq_second, if_neg c]) h9 h10 h11 h12 h13 h14 h15))
theorem rq_t311 (hp : post 1 ()) (h7 : x7 = rq_first x16) (h8 : x8 = rq_second x16) (h9 : x9 = rq_third x18 x16) (h10 : x10 = rq_done x17 x19 x16) (h11 : x11 = z0) (h12 : x12 = rq_need x17 x21 x0) (h13 : x13 = rq_tot x20 x3 z0) (h14 : x14 = rq_stir x16 x21 x22 x23) (h15 : x15 = rq_left x16 x18 x20) : wL_lawOf_311 post mc ms x0 x3 x7 x8 x9 x10 x11 x12 x13 x14 x15 x16 x17 x18 x19 x20 x21 x22 x23 z0 kc ks :=
  br_c (fun c => rq_t325 hp (by rw [h7, rq_first, if_pos c]) h8 h9 h10 h11 h12 h13 h14 h15) (fun c => rq_t325 hp (by rw [h7, rq_first, if_neg c]) h8 h9 h10 h11 h12 h13 h14 h15)
theorem rq_t289 (H : ∀ y, y = rq_due x20 x16 x1 x22 → wL_lawOf_311 post mc ms x0 x3 x7 x8 x9 x10 x11 x12 x13 x14 x15 x16 x17 x18 x19 x20 x21 x22 z0 y kc ks) : wL_lawOf_289 post mc ms x0 x1 x3 x7 x8 x9 x10 x11 x12 x13 x14 x15 x16 x17 x18 x19 x20 x21 x22 z0 kc ks :=
  br_c (fun c => H _ (by rw [rq_due, if_pos c])) (fun c => br_c (fun d => H _ (by rw [rq_due, if_neg c, if_pos d])) (fun d => H _ (by rw [rq_due, if_neg c, if_neg d])))
theorem rq_t241 (H : ∀ y, y = rq_cb x2 x5 x1 → wL_lawOf_289 post mc ms x0 x1 x3 x7 x8 x9 x10 x11 x12 x13 x14 x15 x16 x17 x18 x19 x20 x21 z0 y kc ks) : wL_lawOf_241 post mc ms x0 x1 x2 x3 x5 x7 x8 x9 x10 x11 x12 x13 x14 x15 x16 x17 x18 x19 x20 x21 z0 kc ks :=
  br_c (fun c => H _ (by rw [rq_cb, if_pos c])) (fun c => br_c (fun d => H _ (by rw [rq_cb, if_neg c, if_pos d])) (fun d => br_c (fun e => H _ (by rw [rq_cb, if_neg c, if_neg d, if_pos e])) (fun e => br_c (fun g => H _ (by rw [rq_cb, if_neg c, if_neg d, if_neg e, if_pos g])) (fun g => H _ (by rw [rq_cb, if_neg c, if_neg d, if_neg e, if_neg g])))))
theorem rq_t193 (H : ∀ y, y = rq_cb x2 x4 x1 → wL_lawOf_241 post mc ms x0 x1 x2 x3 x5 x7 x8 x9 x10 x11 x12 x13 x14 x15 x16 x17 x18 x19 x20 z0 y kc ks) : wL_lawOf_193 post mc ms x0 x1 x2 x3 x4 x5 x7 x8 x9 x10 x11 x12 x13 x14 x15 x16 x17 x18 x19 x20 z0 kc ks :=
  br_c (fun c => H _ (by rw [rq_cb, if_pos c])) (fun c => br_c (fun d => H _ (by rw [rq_cb, if_neg c, if_pos d])) (fun d => br_c (fun e => H _ (by rw [rq_cb, if_neg c, if_neg d, if_pos e])) (fun e => br_c (fun g => H _ (by rw [rq_cb, if_neg c, if_neg d, if_neg e, if_pos g])) (fun g => H _ (by rw [rq_cb, if_neg c, if_neg d, if_neg e, if_neg g])))))
theorem rq_t176 (H : ∀ y, y = rq_both z0 x16 → wL_lawOf_193 post mc ms x0 x1 x2 x3 x4 x5 x7 x8 x9 x10 x11 x12 x13 x14 x15 x16 x17 x18 x19 z0 y kc ks) : wL_lawOf_176 post mc ms x0 x1 x2 x3 x4 x5 x7 x8 x9 x10 x11 x12 x13 x14 x15 x16 x17 x18 x19 z0 kc ks :=
  have h0 : z0 = 0 ∨ x16 = 0 → wL_lawOf_192 post mc ms x0 x1 x2 x3 x4 x5 x7 x8 x9 x10 x11 x12 x13 x14 x15 x16 x17 x18 x19 z0 kc ks := fun c => H 0 (by rcases c with c | c <;> simp [rq_both, c])
  br_c (fun c => h0 (Or.inl c)) (fun c => br_c (fun d => h0 (Or.inr d)) (fun d => H _ (by rw [rq_both, if_neg c, if_neg d])))
theorem rq_t158 (H : ∀ y, y = rq_sett x17 z0 → wL_lawOf_176 post mc ms x0 x1 x2 x3 x4 x5 x7 x8 x9 x10 x11 x12 x13 x14 x15 x16 x17 x18 z0 y kc ks) : wL_lawOf_158 post mc ms x0 x1 x2 x3 x4 x5 x7 x8 x9 x10 x11 x12 x13 x14 x15 x16 x17 x18 z0 kc ks :=
  have h0 : rq_sett x17 z0 = 0 → wL_lawOf_175 post mc ms x0 x1 x2 x3 x4 x5 x7 x8 x9 x10 x11 x12 x13 x14 x15 x16 x17 x18 z0 kc ks := fun c => H 0 c.symm
  br_c (fun c => h0 (by rw [rq_sett, if_pos c])) (fun c => br_c (fun d => H _ (by rw [rq_sett, if_neg c, if_pos d])) (fun d => h0 (by rw [rq_sett, if_neg c, if_neg d])))
theorem rq_t137 (H : ∀ y, y = rq_hgt x16 z0 → wL_lawOf_158 post mc ms x0 x1 x2 x3 x4 x5 x7 x8 x9 x10 x11 x12 x13 x14 x15 x16 x17 z0 y kc ks) : wL_lawOf_137 post mc ms x0 x1 x2 x3 x4 x5 x7 x8 x9 x10 x11 x12 x13 x14 x15 x16 x17 z0 kc ks :=
  br_c (fun c => H _ (by rw [rq_hgt, if_pos c])) (fun c => br_c (fun d => H _ (by rw [rq_hgt, if_neg c, if_pos d])) (fun d => H _ (by rw [rq_hgt, if_neg c, if_neg d])))
theorem rq_t121 {b : Int32} (hb : (b = 1 ∧ ¬ x2 < 0 ∧ ¬ 3 < x2) ∨ (b = 0 ∧ (x2 < 0 ∨ 3 < x2))) (H : wL_lawOf_137 post mc ms x0 x1 x2 x3 x4 x5 x7 x8 x9 x10 x11 x12 x13 x14 x15 x16 z0 b kc ks) : wL_lawOf_121 post mc ms x0 x1 x2 x3 x4 x5 x7 x8 x9 x10 x11 x12 x13 x14 x15 x16 z0 kc ks :=
  have h0 : b = 0 → wL_lawOf_136 post mc ms x0 x1 x2 x3 x4 x5 x7 x8 x9 x10 x11 x12 x13 x14 x15 x16 z0 kc ks := fun c => by subst c; exact H
  br_c (fun c => h0 (by rcases hb with hb | hb; exact absurd c hb.2.1; exact hb.1)) (fun c => br_c (fun d => h0 (by rcases hb with hb | hb; exact absurd d hb.2.2; exact hb.1)) (fun d => by
    rcases hb with hb | hb
    · rw [hb.1] at H; exact H
    · rcases hb.2 with e | e
      · exact absurd e c
      · exact absurd e d))
theorem rq_t104 {b : Int32} (hb : (b = 1 ∧ ¬ x3 < 0 ∧ ¬ 7 < x3) ∨ (b = 0 ∧ (x3 < 0 ∨ 7 < x3))) (H : wL_lawOf_121 post mc ms x0 x1 x2 x3 x4 x5 x7 x8 x9 x10 x11 x12 x13 x14 x15 z0 b kc ks) : wL_lawOf_104 post mc ms x0 x1 x2 x3 x4 x5 x7 x8 x9 x10 x11 x12 x13 x14 x15 z0 kc ks :=
  have h0 : b = 0 → wL_lawOf_120 post mc ms x0 x1 x2 x3 x4 x5 x7 x8 x9 x10 x11 x12 x13 x14 x15 z0 kc ks := fun c => by subst c; exact H
  br_c (fun c => h0 (by rcases hb with hb | hb; exact absurd c hb.2.1; exact hb.1)) (fun c => br_c (fun d => h0 (by rcases hb with hb | hb; exact absurd d hb.2.2; exact hb.1)) (fun d => by
    rcases hb with hb | hb
    · rw [hb.1] at H; exact H
    · rcases hb.2 with e | e
      · exact absurd e c
      · exact absurd e d))
/-- the whole tail: the three flags, and the nine equations -/
theorem rq_tail {bi bq bo : Int32} (hi : (bi = 1 ∧ ¬ x0 < 0 ∧ ¬ 5 < x0) ∨ (bi = 0 ∧ (x0 < 0 ∨ 5 < x0))) (hq : (bq = 1 ∧ ¬ x3 < 0 ∧ ¬ 7 < x3) ∨ (bq = 0 ∧ (x3 < 0 ∨ 7 < x3))) (ho : (bo = 1 ∧ ¬ x2 < 0 ∧ ¬ 3 < x2) ∨ (bo = 0 ∧ (x2 < 0 ∨ 3 < x2)))
    (hp : post 1 ()) (st bt du : Int32) (e1 : st = rq_sett bq (rq_hgt bi bo)) (e2 : bt = rq_both st bi) (e3 : du = rq_due st bi x1 (rq_cb x2 x4 x1))
    (h7 : x7 = rq_first bi) (h8 : x8 = rq_second bi) (h9 : x9 = rq_third bo bi) (h10 : x10 = rq_done bq (rq_hgt bi bo) bi) (h11 : x11 = du) (h12 : x12 = rq_need bq bt x0)
    (h13 : x13 = rq_tot st x3 du) (h14 : x14 = rq_stir bi bt (rq_cb x2 x4 x1) (rq_cb x2 x5 x1)) (h15 : x15 = rq_left bi bo st) :
    ((x0 < 0 → (wL_lawOf_103 post mc ms x0 x1 x2 x3 x4 x5 x7 x8 x9 x10 x11 x12 x13 x14 x15 kc ks)) ∧ (¬ x0 < 0 → (((5 < x0 → (wL_lawOf_103 post mc ms x0 x1 x2 x3 x4 x5 x7 x8 x9 x10 x11 x12 x13 x14 x15 kc ks)) ∧ (¬ 5 < x0 → (wL_lawOf_104 post mc ms x0 x1 x2 x3 x4 x5 x7 x8 x9 x10 x11 x12 x13 x14 x15 1 kc ks)))))) := by
  have H : wL_lawOf_104 post mc ms x0 x1 x2 x3 x4 x5 x7 x8 x9 x10 x11 x12 x13 x14 x15 bi kc ks := by
    refine rq_t104 hq (rq_t121 ho (rq_t137 (fun y ey => rq_t158 (fun y2 ey2 => rq_t176 (fun y3 ey3 => rq_t193 (fun y4 ey4 => rq_t241 (fun y5 ey5 => rq_t289 (fun y6 ey6 => ?_))))))))
    subst ey ey2 ey3 ey4 ey5 ey6 e1 e2 e3
    exact rq_t311 hp h7 h8 h9 h10 h11 h12 h13 h14 h15
  have h0 : bi = 0 → wL_lawOf_103 post mc ms x0 x1 x2 x3 x4 x5 x7 x8 x9 x10 x11 x12 x13 x14 x15 kc ks := fun c => by subst c; exact H
  exact br_c (fun c => h0 (by rcases hi with hi | hi; exact absurd c hi.2.1; exact hi.1)) (fun c => br_c (fun d => h0 (by rcases hi with hi | hi; exact absurd d hi.2.2; exact hi.1)) (fun d => by
    rcases hi with hb | hb
    · rw [hb.1] at H; exact H
    · rcases hb.2 with e | e
      · exact absurd e c
      · exact absurd e d))
end
end
section
/-! the small methods, each over any state -/
theorem rq_ix (k m : Nat) : nI k * 10 + nI m = nI (k * 10 + m) := by
  rw [show (10 : Int32) = nI 10 from rfl, pk_mul, nI_add]
theorem rq_ix0 (k : Nat) : nI k * 10 + 0 = nI (k * 10) := by
  have e := rq_ix k 0
  rw [nI_0, Nat.add_zero] at e
  exact e
theorem rq_z {m : Nat} (h : m < 2 ^ 31) : (nI m = 0) ↔ m = 0 := by
  rw [← nI_0]
  exact nI_eq h (by omega)
/-- what a query's list of needs holds, and what allSteady answers -/
def rq_ns (k i : Nat) (a14 a15 : Nat → Int32) (r : Int32) : Prop := (a14 k = 0 ∧ r = 1) ∨ (a14 k = 1 ∧ a15 (k * 10) = nI i ∧ i < 6 ∧ r = if i < 3 then 0 else 1)
theorem rq_ns_nar {k i : Nat} {a14 a15 : Nat → Int32} {r : Int32} (h : rq_ns k i a14 a15 r) : vp_nar .boolean r = r := by
  rcases h with h | h
  · rw [h.2]; rfl
  · rw [h.2.2.2]
    by_cases c : i < 3
    · rw [if_pos c]; rfl
    · rw [if_neg c]; rfl
section
variable {post : St2 → Prop} {pb : Int32 → Prop} {po : Int32 → St2 → Prop} {h rv sc fr tp fl : Int32} {a1 a2 a3 a4 a5 a6 a7 a8 a9 a10 a11 a12 a13 a14 a15 a16 a17 a18 a19 a20 a21 : Nat → Int32} {k i m t p : Nat} {r x v : Int32}
theorem rq_push (ht : t < 96) (H : post (h, rv, sc, fr, nI (t + 1), fl, a1, a2, a3, a4, a5, a6, a7, a8, a9, a10, a11, a12, a13, a14, a15, a16, a17, a18, upd a19 t x, a20, a21)) : wpX_push post (h, rv, sc, fr, nI t, fl, a1, a2, a3, a4, a5, a6, a7, a8, a9, a10, a11, a12, a13, a14, a15, a16, a17, a18, a19, a20, a21) x := by
  unfold wpX_push
  dsimp only
  rw [nI_clamp (show t < 2 ^ 31 by omega)]
  exact ⟨pk_in t 96 ht, nm_e (nm_r (nI_1 t) H)⟩
theorem rq_note (hk : k < 8) (hm : m < 10) (h14 : a14 k = nI m) (H : post (h, rv, sc, fr, tp, fl, a1, a2, a3, a4, a5, a6, a7, a8, a9, a10, a11, a12, a13, upd a14 k (nI (m + 1)), upd a15 (k * 10 + m) x, a16, a17, a18, a19, a20, a21)) : wpX_noteNeed post (h, rv, sc, fr, tp, fl, a1, a2, a3, a4, a5, a6, a7, a8, a9, a10, a11, a12, a13, a14, a15, a16, a17, a18, a19, a20, a21) (nI k) x := by
  unfold wpX_noteNeed
  dsimp only
  rw [nI_clamp (show k < 2 ^ 31 by omega), h14, rq_ix, nI_1 m, nI_clamp (show k * 10 + m < 2 ^ 31 by omega)]
  exact ⟨pk_in k 8 hk, vp_in_nI (by omega) (by omega), nm_e ⟨pk_in k 8 hk, pk_in k 8 hk, nm_e H⟩⟩
theorem rq_fresh1 (hk : k < 8) (h7 : ¬ a7 k = 0) (h8 : a8 k = 0) (h10 : a10 k = rv) (H : pb 1) : wpX_fresh pb (h, rv, sc, fr, tp, fl, a1, a2, a3, a4, a5, a6, a7, a8, a9, a10, a11, a12, a13, a14, a15, a16, a17, a18, a19, a20, a21) (nI k) := by
  unfold wpX_fresh
  dsimp only
  rw [nI_clamp (show k < 2 ^ 31 by omega)]
  exact ⟨pk_in k 8 hk, br_f h7 ⟨pk_in k 8 hk, br_t h8 ⟨pk_in k 8 hk, br_t h10 H⟩⟩⟩
theorem rq_fresh0 (hk : k < 8) (hf : a7 k = 0 ∨ ¬ a10 k = rv) (H : pb 0) : wpX_fresh pb (h, rv, sc, fr, tp, fl, a1, a2, a3, a4, a5, a6, a7, a8, a9, a10, a11, a12, a13, a14, a15, a16, a17, a18, a19, a20, a21) (nI k) := by
  unfold wpX_fresh
  dsimp only
  rw [nI_clamp (show k < 2 ^ 31 by omega)]
  exact ⟨pk_in k 8 hk, br_c (fun _ => H) (fun c => ⟨pk_in k 8 hk, br_c (fun _ => ⟨pk_in k 8 hk, br_f (hf.resolve_left c) H⟩) (fun _ => H)⟩)⟩
theorem rq_start (hk : k < 8) (h16 : a16 0 = nI k) (H : post (h, rv, sc, fr, tp, fl, a1, a2, a3, a4, a5, a6, a7, upd a8 k 1, a9, a10, a11, a12, a13, upd a14 k 0, a15, a16, upd a17 0 1, upd a18 0 0, a19, a20, a21)) : wpX_startWork post (h, rv, sc, fr, tp, fl, a1, a2, a3, a4, a5, a6, a7, a8, a9, a10, a11, a12, a13, a14, a15, a16, a17, a18, a19, a20, a21) 0 := by
  unfold wpX_startWork
  dsimp only
  rw [sb_cl0, h16]
  refine ⟨pk_in 0 8 (by omega), nm_e ⟨pk_in 0 8 (by omega), nm_e ⟨pk_in 0 8 (by omega), nm_e ⟨pk_in k 8 hk, ?_⟩⟩⟩⟩
  rw [nI_clamp (show k < 2 ^ 31 by omega)]
  exact nm_e ⟨pk_in k 8 hk, nm_e H⟩
theorem rq_as (hk : k < 8) (hs : rq_ns k i a14 a15 r) (H : pb r) : wpX_allSteady pb (h, rv, sc, fr, tp, fl, a1, a2, a3, a4, a5, a6, a7, a8, a9, a10, a11, a12, a13, a14, a15, a16, a17, a18, a19, a20, a21) (nI k) := by
  unfold wpX_allSteady
  dsimp only
  rcases hs with ⟨h14, e⟩ | ⟨h14, h15, hi, e⟩
  · subst e
    refine ⟨1, And.intro (pk_in k 8 hk) (br_t ?_ ⟨rfl, H⟩)⟩
    rw [nI_clamp (show k < 2 ^ 31 by omega), h14]
    decide
  · refine ⟨2, And.intro (pk_in k 8 hk) (br_f ?_ ⟨?_, ?_⟩)⟩
    · rw [nI_clamp (show k < 2 ^ 31 by omega), h14]
      decide
    · rw [rq_ix0]
      exact pk_in (k * 10) 80 (by omega)
    · rw [rq_ix0, nI_clamp (show k * 10 < 2 ^ 31 by omega), h15]
      refine nm_e (br_f (by decide) (pk_le 6 i (fun c => absurd c (by omega)) (fun _ => pk_lt i 3 (fun c => ?_) (fun c => ?_))))
      · rw [if_pos c] at e
        subst e
        refine nm_r (e' := 1) (by decide) (And.intro (pk_in k 8 hk) (br_t ?_ ⟨rfl, H⟩))
        rw [nI_clamp (show k < 2 ^ 31 by omega), h14]
        decide
      · rw [if_neg (by omega)] at e
        subst e
        refine nm_r (e' := 1) (by decide) (And.intro (pk_in k 8 hk) (br_t ?_ ⟨rfl, H⟩))
        rw [nI_clamp (show k < 2 ^ 31 by omega), h14]
        decide
theorem rq_comb (H : ∀ z, z = rq_cb x (a19 0) (a19 1) → post (h, rv, sc, fr, nI 1, fl, a1, a2, a3, a4, a5, a6, a7, a8, a9, a10, a11, a12, a13, a14, a15, a16, a17, a18, upd a19 0 z, a20, a21)) : wpX_combine post (h, rv, sc, fr, nI 2, fl, a1, a2, a3, a4, a5, a6, a7, a8, a9, a10, a11, a12, a13, a14, a15, a16, a17, a18, a19, a20, a21) x := by
  unfold wpX_combine
  dsimp only
  refine ⟨pk_in 1 96 (by omega), nm_r (e' := a19 1) rfl ⟨pk_in 0 96 (by omega), nm_r (e' := a19 0) rfl (nm_r (e' := nI 0) rfl ?_)⟩⟩
  refine br_c (fun c => rq_push (t := 0) (by omega) (H _ (by rw [rq_cb, if_pos c]))) (fun c => br_c (fun d => rq_push (t := 0) (by omega) (H _ (by rw [rq_cb, if_neg c, if_pos d]))) (fun d => br_c (fun e => rq_push (t := 0) (by omega) (H _ (by rw [rq_cb, if_neg c, if_neg d, if_pos e]))) (fun e => br_c (fun g => ?_) (fun g => ?_))))
  · unfold wX_combine_89
    exact rq_push (t := 0) (by omega) (H _ (by rw [rq_cb, if_neg c, if_neg d, if_neg e, if_pos g]))
  · unfold wX_combine_89
    exact rq_push (t := 0) (by omega) (H _ (by rw [rq_cb, if_neg c, if_neg d, if_neg e, if_neg g]))
theorem rq_e49 (hk : k < 8) (hn : rq_ns k i a14 a15 r) (H : post (h, rv, sc, 0, tp, fl, a1, a2, a3, a4, a5, a6, upd a7 k 1, upd a8 k 0, upd a9 k x, upd a10 k rv, a11, a12, upd a13 k r, a14, a15, a16, a17, a18, a19, a20, a21)) : wX_endWork_49 post (nI k) x h rv sc (nI 1) tp fl a1 a2 a3 a4 a5 a6 a7 a8 a9 a10 a11 a12 a13 a14 a15 a16 a17 a18 a19 a20 a21 := by
  unfold wX_endWork_49
  rw [nI_clamp (show k < 2 ^ 31 by omega)]
  refine ⟨pk_in k 8 hk, nm_e ⟨pk_in k 8 hk, nm_e ⟨pk_in k 8 hk, nm_e ⟨pk_in k 8 hk, nm_e (rq_as hk hn ⟨pk_in k 8 hk, ?_⟩)⟩⟩⟩⟩
  rw [rq_ns_nar hn]
  exact nm_e (nm_r (e' := 0) rfl H)
theorem rq_end (hk : k < 8) (hn : rq_ns k i a14 a15 r) (hv : a19 0 = v) (H : ∀ a11' : Nat → Int32, post (h, rv, sc, 0, 0, fl, a1, a2, a3, a4, a5, a6, upd a7 k 1, upd a8 k 0, upd a9 k v, upd a10 k rv, a11', a12, upd a13 k r, a14, a15, a16, a17, a18, a19, a20, a21)) : wpX_endWork post (h, rv, sc, nI 1, nI 1, fl, a1, a2, a3, a4, a5, a6, a7, a8, a9, a10, a11, a12, a13, a14, a15, a16, a17, a18, a19, a20, a21) (nI k) := by
  unfold wpX_endWork
  dsimp only
  have E : ∀ a11' : Nat → Int32, wX_endWork_49 post (nI k) v h rv sc (nI 1) 0 fl a1 a2 a3 a4 a5 a6 a7 a8 a9 a10 a11' a12 a13 a14 a15 a16 a17 a18 a19 a20 a21 := fun a11' => rq_e49 hk hn (H a11')
  have E2 : wX_endWork_39 post (nI k) v h rv sc (nI 1) 0 fl a1 a2 a3 a4 a5 a6 a7 a8 a9 a10 a11 a12 a13 a14 a15 a16 a17 a18 a19 a20 a21 := And.intro (pk_in k 8 hk) (nm_e (E _))
  exact nm_r (e' := 0) rfl ⟨pk_in 0 96 (by omega), nm_r (e' := v) hv ⟨pk_in k 8 hk, br_c (fun _ => E2) (fun _ => ⟨pk_in k 8 hk, br_c (fun _ => E _) (fun _ => E2)⟩)⟩⟩
theorem rq_219 (H : post (h, rv, sc, fr, tp, fl, a1, a2, a3, a4, a5, a6, a7, a8, a9, a10, a11, a12, a13, a14, a15, a16, a17, upd a18 0 (a18 0 + 1), a19, a20, a21)) : wX_workStep_219 post 0 h rv sc fr tp fl a1 a2 a3 a4 a5 a6 a7 a8 a9 a10 a11 a12 a13 a14 a15 a16 a17 a18 a19 a20 a21 := by
  unfold wX_workStep_219
  rw [sb_cl0]
  exact ⟨pk_in 0 8 (by omega), pk_in 0 8 (by omega), nm_e H⟩
/-- a step of work at a number -/
theorem rq_wNum (hk : k < 8) (hp : p < 10) (ht : t < 96) (h16 : a16 0 = nI k) (h18 : a18 0 = nI p) (hl : ¬ nI p = a1 k) (h2 : a2 (k * 10 + p) = 0) (hv : a3 (k * 10 + p) = v)
    (H : post (h, rv, sc, fr, nI (t + 1), fl, a1, a2, a3, a4, a5, a6, a7, a8, a9, a10, a11, a12, a13, a14, a15, a16, a17, upd a18 0 (nI (p + 1)), upd a19 t v, a20, a21)) : wpX_workStep post (h, rv, sc, fr, nI t, fl, a1, a2, a3, a4, a5, a6, a7, a8, a9, a10, a11, a12, a13, a14, a15, a16, a17, a18, a19, a20, a21) 0 := by
  unfold wpX_workStep
  dsimp only
  rw [sb_cl0, h16, h18]
  refine ⟨pk_in 0 8 (by omega), nm_e ⟨pk_in 0 8 (by omega), pk_in k 9 (by omega), ?_⟩⟩
  rw [nI_clamp (show k < 2 ^ 31 by omega)]
  refine br_f hl ⟨pk_in 0 8 (by omega), nm_r (rq_ix k p) ⟨vp_in_nI (by omega) (by omega), ?_⟩⟩
  rw [nI_clamp (show k * 10 + p < 2 ^ 31 by omega), h2, hv]
  refine nm_e (br_f (by decide) (br_f (by decide) (br_t rfl ⟨vp_in_nI (by omega) (by omega), rq_push ht (rq_219 ?_)⟩)))
  dsimp only
  rw [h18, nI_1 p]
  exact H
/-- a step of work at an input -/
theorem rq_wIn (hk : k < 8) (hp : p < 10) (ht : t < 96) (hi : i < 6) (hm : m < 10) (h16 : a16 0 = nI k) (h18 : a18 0 = nI p) (hl : ¬ nI p = a1 k) (h2 : a2 (k * 10 + p) = 1) (h3 : a3 (k * 10 + p) = nI i) (h14 : a14 k = nI m)
    (H : post (h, rv, sc, fr, nI (t + 1), fl, a1, a2, a3, a4, a5, a6, a7, a8, a9, a10, a11, a12, a13, upd a14 k (nI (m + 1)), upd a15 (k * 10 + m) (nI i), a16, a17, upd a18 0 (nI (p + 1)), upd a19 t (a5 i), a20, a21)) : wpX_workStep post (h, rv, sc, fr, nI t, fl, a1, a2, a3, a4, a5, a6, a7, a8, a9, a10, a11, a12, a13, a14, a15, a16, a17, a18, a19, a20, a21) 0 := by
  unfold wpX_workStep
  dsimp only
  rw [sb_cl0, h16, h18]
  refine ⟨pk_in 0 8 (by omega), nm_e ⟨pk_in 0 8 (by omega), pk_in k 9 (by omega), ?_⟩⟩
  rw [nI_clamp (show k < 2 ^ 31 by omega)]
  refine br_f hl ⟨pk_in 0 8 (by omega), nm_r (rq_ix k p) ⟨vp_in_nI (by omega) (by omega), ?_⟩⟩
  rw [nI_clamp (show k * 10 + p < 2 ^ 31 by omega), h2, h3]
  refine nm_e (br_f (by decide) (br_f (by decide) (br_f (by decide) (br_t rfl ⟨vp_in_nI (by omega) (by omega), rq_note hk hm h14 ⟨vp_in_nI (by omega) (by omega), ?_⟩⟩))))
  dsimp only
  rw [h3, nI_clamp (show i < 2 ^ 31 by omega)]
  refine ⟨pk_in i 6 hi, rq_push ht (rq_219 ?_)⟩
  dsimp only
  rw [h18, nI_1 p]
  exact H
/-- a step of work at an operation -/
theorem rq_wAp (hk : k < 8) (hp : p < 10) (h16 : a16 0 = nI k) (h18 : a18 0 = nI p) (hl : ¬ nI p = a1 k) (h2 : a2 (k * 10 + p) = 4) (hv : rq_cb (a3 (k * 10 + p)) (a19 0) (a19 1) = v)
    (H : post (h, rv, sc, fr, nI 1, fl, a1, a2, a3, a4, a5, a6, a7, a8, a9, a10, a11, a12, a13, a14, a15, a16, a17, upd a18 0 (nI (p + 1)), upd a19 0 v, a20, a21)) : wpX_workStep post (h, rv, sc, fr, nI 2, fl, a1, a2, a3, a4, a5, a6, a7, a8, a9, a10, a11, a12, a13, a14, a15, a16, a17, a18, a19, a20, a21) 0 := by
  unfold wpX_workStep
  dsimp only
  rw [sb_cl0, h16, h18]
  refine ⟨pk_in 0 8 (by omega), nm_e ⟨pk_in 0 8 (by omega), pk_in k 9 (by omega), ?_⟩⟩
  rw [nI_clamp (show k < 2 ^ 31 by omega)]
  refine br_f hl ⟨pk_in 0 8 (by omega), nm_r (rq_ix k p) ⟨vp_in_nI (by omega) (by omega), ?_⟩⟩
  rw [nI_clamp (show k * 10 + p < 2 ^ 31 by omega), h2]
  refine nm_e (br_f (by decide) (br_f (by decide) (br_f (by decide) (br_f (by decide) ⟨vp_in_nI (by omega) (by omega), rq_comb (fun z ez => rq_219 ?_)⟩))))
  dsimp only
  rw [h18, nI_1 p, ez, hv]
  exact H
/-- the last step of work -/
theorem rq_wEnd (hk : k < 8) (h16 : a16 0 = nI k) (hl : a18 0 = a1 k) (hn : rq_ns k i a14 a15 r) (hv : a19 0 = v)
    (H : ∀ a11' : Nat → Int32, post (h, rv, sc, 0, 0, fl, a1, a2, a3, a4, a5, a6, upd a7 k 1, upd a8 k 0, upd a9 k v, upd a10 k rv, a11', a12, upd a13 k r, a14, a15, a16, a17, a18, a19, a20, a21)) : wpX_workStep post (h, rv, sc, nI 1, nI 1, fl, a1, a2, a3, a4, a5, a6, a7, a8, a9, a10, a11, a12, a13, a14, a15, a16, a17, a18, a19, a20, a21) 0 := by
  unfold wpX_workStep
  dsimp only
  rw [sb_cl0, h16]
  refine ⟨pk_in 0 8 (by omega), nm_e ⟨pk_in 0 8 (by omega), pk_in k 9 (by omega), ?_⟩⟩
  rw [nI_clamp (show k < 2 ^ 31 by omega)]
  exact br_t hl (rq_end hk hn hv H)
/-- a check: nothing is left to look at -/
theorem rq_cEnd (hk : k < 8) (h16 : a16 0 = nI k) (hl : a18 0 = a14 k) (hn : rq_ns k i a14 a15 r)
    (H : post (h, rv, sc, 0, tp, fl, a1, a2, a3, a4, a5, a6, a7, a8, a9, upd a10 k rv, a11, a12, upd a13 k r, a14, a15, a16, a17, a18, a19, a20, a21)) : wpX_checkStep post (h, rv, sc, nI 1, tp, fl, a1, a2, a3, a4, a5, a6, a7, a8, a9, a10, a11, a12, a13, a14, a15, a16, a17, a18, a19, a20, a21) 0 := by
  unfold wpX_checkStep
  dsimp only
  rw [sb_cl0, h16]
  refine ⟨pk_in 0 8 (by omega), nm_e ⟨pk_in 0 8 (by omega), pk_in k 8 hk, ?_⟩⟩
  rw [nI_clamp (show k < 2 ^ 31 by omega)]
  refine br_t hl ⟨pk_in k 8 hk, nm_e (rq_as hk hn ⟨pk_in k 8 hk, ?_⟩)⟩
  rw [rq_ns_nar hn]
  exact nm_e (nm_r (e' := 0) rfl H)
/-- a check of an input: unchanged, or work starts -/
theorem rq_cIn (hk : k < 8) (hi : i < 6) (h16 : a16 0 = nI k) (h18 : a18 0 = 0) (h14 : a14 k = 1) (h15 : a15 (k * 10) = nI i)
    (H1 : a6 i ≤ a10 k → post (h, rv, sc, fr, tp, fl, a1, a2, a3, a4, a5, a6, a7, a8, a9, a10, a11, a12, a13, a14, a15, a16, a17, upd a18 0 1, a19, a20, a21))
    (H2 : ¬ a6 i ≤ a10 k → post (h, rv, sc, fr, tp, fl, a1, a2, a3, a4, a5, a6, a7, upd a8 k 1, a9, a10, a11, a12, a13, upd a14 k 0, a15, a16, upd a17 0 1, upd a18 0 0, a19, a20, a21)) : wpX_checkStep post (h, rv, sc, fr, tp, fl, a1, a2, a3, a4, a5, a6, a7, a8, a9, a10, a11, a12, a13, a14, a15, a16, a17, a18, a19, a20, a21) 0 := by
  unfold wpX_checkStep
  dsimp only
  rw [sb_cl0, h16, h18]
  refine ⟨pk_in 0 8 (by omega), nm_e ⟨pk_in 0 8 (by omega), pk_in k 8 hk, ?_⟩⟩
  rw [nI_clamp (show k < 2 ^ 31 by omega), h14, rq_ix0, nI_clamp (show k * 10 < 2 ^ 31 by omega), h15]
  refine br_f (by decide) ⟨pk_in 0 8 (by omega), vp_in_nI (by omega) (by omega), nm_e (pk_le 6 i (fun c => absurd c (by omega)) (fun _ => ⟨pk_in i 6 hi, ?_⟩))⟩
  rw [nI_clamp (show i < 2 ^ 31 by omega)]
  refine nm_e ?_
  unfold wX_checkStep_126
  rw [nI_clamp (show k < 2 ^ 31 by omega), sb_cl0, h18]
  exact ⟨pk_in k 8 hk, br_c (fun c => ⟨pk_in 0 8 (by omega), pk_in 0 8 (by omega), nm_r (e' := upd a18 0 1) rfl (H1 c)⟩) (fun c => rq_start hk h16 (H2 c))⟩
/-- a request at an empty row of frames: a frame that works -/
theorem rq_r112 (hk : k < 8)
    (H1 : a7 k = 0 ∨ ¬ a8 k = 0 → post (h, rv, sc, nI 1, tp, fl, a1, a2, a3, a4, a5, a6, a7, upd a8 k 1, a9, a10, a11, a12, a13, upd a14 k 0, a15, upd a16 0 (nI k), upd (upd a17 0 0) 0 1, upd (upd a18 0 0) 0 0, a19, a20, a21))
    (H2 : ¬ a7 k = 0 → a8 k = 0 → post (h, rv, sc, nI 1, tp, fl, a1, a2, a3, a4, a5, a6, a7, a8, a9, a10, a11, a12, a13, a14, a15, upd a16 0 (nI k), upd a17 0 0, upd a18 0 0, a19, a20, a21)) : wX_request_112 post (nI k) h rv sc 0 tp fl a1 a2 a3 a4 a5 a6 a7 a8 a9 a10 a11 a12 a13 a14 a15 a16 a17 a18 a19 a20 a21 := by
  unfold wX_request_112
  rw [sb_cl0, nI_clamp (show k < 2 ^ 31 by omega)]
  have E : a7 k = 0 ∨ ¬ a8 k = 0 → wX_request_166 post 0 h rv sc (nI 1) tp fl a1 a2 a3 a4 a5 a6 a7 a8 a9 a10 a11 a12 a13 a14 a15 (upd a16 0 (nI k)) (upd a17 0 0) (upd a18 0 0) a19 a20 a21 := by
    intro c
    unfold wX_request_166
    exact rq_start hk pk_us (H1 c)
  exact nm_r (e' := nI 1) rfl ⟨pk_in 0 8 (by omega), nm_e ⟨pk_in 0 8 (by omega), nm_e ⟨pk_in 0 8 (by omega), nm_e ⟨pk_in k 8 hk, br_c (fun c => E (Or.inl c)) (fun c => ⟨pk_in k 8 hk, br_c (fun d => H2 c d) (fun d => E (Or.inr d))⟩)⟩⟩⟩⟩
theorem rq_req (hk : k < 8) (h12 : ¬ a12 k = rv) (h78 : ¬ a7 k = 0 → a8 k = 0)
    (H1 : a7 k = 0 → post (h, rv, sc, nI 1, tp, fl, a1, a2, a3, a4, a5, a6, a7, upd a8 k 1, a9, a10, a11, a12, a13, upd a14 k 0, a15, upd a16 0 (nI k), upd (upd a17 0 0) 0 1, upd (upd a18 0 0) 0 0, a19, a20, a21))
    (H2 : ¬ a7 k = 0 → post (h, rv, sc, nI 1, tp, fl, a1, a2, a3, a4, a5, a6, a7, a8, a9, a10, a11, a12, a13, a14, a15, upd a16 0 (nI k), upd a17 0 0, upd a18 0 0, a19, a20, a21))
    (H3 : ¬ a7 k = 0 → ¬ a13 k = 0 → ¬ a10 k < sc → post (h, rv, sc, 0, tp, fl, a1, a2, a3, a4, a5, a6, a7, a8, a9, upd a10 k rv, a11, a12, a13, a14, a15, a16, a17, a18, a19, a20, a21)) : wpX_request post (h, rv, sc, 0, tp, fl, a1, a2, a3, a4, a5, a6, a7, a8, a9, a10, a11, a12, a13, a14, a15, a16, a17, a18, a19, a20, a21) (nI k) := by
  unfold wpX_request
  dsimp only
  have E : wX_request_112 post (nI k) h rv sc 0 tp fl a1 a2 a3 a4 a5 a6 a7 a8 a9 a10 a11 a12 a13 a14 a15 a16 a17 a18 a19 a20 a21 := rq_r112 hk (fun c => c.elim H1 (fun d => (Classical.em (a7 k = 0)).elim H1 (fun e => absurd (h78 e) d))) (fun c _ => H2 c)
  refine ⟨1, br_t (by decide) (br_t rfl ⟨pk_in k 8 hk, ?_⟩)⟩
  rw [nI_clamp (show k < 2 ^ 31 by omega)]
  exact br_f h12 ⟨pk_in k 8 hk, br_c (fun _ => E) (fun c => ⟨pk_in k 8 hk, br_t (h78 c) ⟨pk_in k 8 hk, br_c (fun _ => E) (fun d => ⟨pk_in k 8 hk, br_c (fun _ => E) (fun e => ⟨pk_in k 8 hk, nm_e (H3 c d e)⟩)⟩)⟩⟩)⟩
end
end
section
/-! ensure: the rounds, and what it leaves -/
def rq_E (post : Int32 → St2 → Prop) (x1 : Int32) (n : Nat) (x : Int32) (u : St2) : Prop := match u with
  | (h, rv, sc, fr, tp, fl, a1, a2, a3, a4, a5, a6, a7, a8, a9, a10, a11, a12, a13, a14, a15, a16, a17, a18, a19, a20, a21) => wX_ensure_30 post x1 n x h rv sc fr tp fl a1 a2 a3 a4 a5 a6 a7 a8 a9 a10 a11 a12 a13 a14 a15 a16 a17 a18 a19 a20 a21
def rq_sm (k : Nat) (a a' : Nat → Int32) : Prop := ∀ j, j ≠ k → a' j = a j
theorem rq_sm_r {k : Nat} {a : Nat → Int32} : rq_sm k a a := fun _ _ => rfl
theorem rq_sm_u {k : Nat} {a a' : Nat → Int32} {x : Int32} (h : rq_sm k a a') : rq_sm k a (upd a' k x) := fun j hj => (pk_un hj).trans (h j hj)
/-- what ensure leaves: query k known, right and valid now; the others as they were -/
def rq_nw (k : Nat) (v rv : Int32) (a7 a8 a9 a10 a13 a14 a15 a7' a8' a9' a10' a13' a14' a15' : Nat → Int32) : Prop :=
  rq_sm k a7 a7' ∧ rq_sm k a8 a8' ∧ rq_sm k a9 a9' ∧ rq_sm k a10 a10' ∧ rq_sm k a13 a13' ∧ rq_sm k a14 a14' ∧ rq_sm (k * 10) a15 a15' ∧ ¬ a7' k = 0 ∧ a8' k = 0 ∧ a9' k = v ∧ a10' k = rv
section
variable {post : Int32 → St2 → Prop} {h rv sc fr tp fl : Int32} {a1 a2 a3 a4 a5 a6 a7 a8 a9 a10 a11 a12 a13 a14 a15 a16 a17 a18 a19 a20 a21 : Nat → Int32} {k i m t p n r : Nat} {x1 x2 c v nn op : Int32}
theorem rq_ei {x : Int32} (H : wX_ensure_30 post x1 n x h rv sc fr tp fl a1 a2 a3 a4 a5 a6 a7 a8 a9 a10 a11 a12 a13 a14 a15 a16 a17 a18 a19 a20 a21) : rq_E post x1 n x (h, rv, sc, fr, tp, fl, a1, a2, a3, a4, a5, a6, a7, a8, a9, a10, a11, a12, a13, a14, a15, a16, a17, a18, a19, a20, a21) := H
theorem rq_lEnd (H : post 1 (h, rv, sc, 0, tp, 0, a1, a2, a3, a4, a5, a6, a7, a8, a9, a10, a11, a12, a13, a14, a15, a16, a17, a18, a19, a20, a21)) : wX_ensure_30 post x1 (n + 1) x2 h rv sc 0 tp 0 a1 a2 a3 a4 a5 a6 a7 a8 a9 a10 a11 a12 a13 a14 a15 a16 a17 a18 a19 a20 a21 := by
  have E : wX_ensure_86 post x1 h rv sc 0 tp 0 a1 a2 a3 a4 a5 a6 a7 a8 a9 a10 a11 a12 a13 a14 a15 a16 a17 a18 a19 a20 a21 := by
    unfold wX_ensure_86 wX_ensure_134
    exact br_t rfl (br_t rfl H)
  exact br_c (fun _ => E) (fun _ => br_t (by decide) E)
theorem rq_lWork (hr : r < 4000) (h17 : ¬ a17 0 = 0) (H : ∀ Φ : St2 → Prop, (∀ u, rq_E post x1 n (nI (r + 1)) u → Φ u) → wpX_workStep Φ (h, rv, sc, nI 1, tp, 0, a1, a2, a3, a4, a5, a6, a7, a8, a9, a10, a11, a12, a13, a14, a15, a16, a17, a18, a19, a20, a21) 0) :
    wX_ensure_30 post x1 (n + 1) (nI r) h rv sc (nI 1) tp 0 a1 a2 a3 a4 a5 a6 a7 a8 a9 a10 a11 a12 a13 a14 a15 a16 a17 a18 a19 a20 a21 := by
  refine pk_le 4000 r (fun c => absurd c (by omega)) (fun _ => br_f (by decide) (br_t rfl (nm_r (e' := 0) rfl ⟨pk_in 0 8 (by omega), br_f (by rw [sb_cl0]; exact h17) (H _ (fun u hu => ?_))⟩)))
  obtain ⟨h, rv, sc, fr, tp, fl, a1, a2, a3, a4, a5, a6, a7, a8, a9, a10, a11, a12, a13, a14, a15, a16, a17, a18, a19, a20, a21⟩ := u
  exact nm_r (nI_1 r) hu
theorem rq_lCheck (hr : r < 4000) (h17 : a17 0 = 0) (H : ∀ Φ : St2 → Prop, (∀ u, rq_E post x1 n (nI (r + 1)) u → Φ u) → wpX_checkStep Φ (h, rv, sc, nI 1, tp, 0, a1, a2, a3, a4, a5, a6, a7, a8, a9, a10, a11, a12, a13, a14, a15, a16, a17, a18, a19, a20, a21) 0) :
    wX_ensure_30 post x1 (n + 1) (nI r) h rv sc (nI 1) tp 0 a1 a2 a3 a4 a5 a6 a7 a8 a9 a10 a11 a12 a13 a14 a15 a16 a17 a18 a19 a20 a21 := by
  refine pk_le 4000 r (fun c => absurd c (by omega)) (fun _ => br_f (by decide) (br_t rfl (nm_r (e' := 0) rfl ⟨pk_in 0 8 (by omega), br_t (by rw [sb_cl0]; exact h17) (H _ (fun u hu => ?_))⟩)))
  obtain ⟨h, rv, sc, fr, tp, fl, a1, a2, a3, a4, a5, a6, a7, a8, a9, a10, a11, a12, a13, a14, a15, a16, a17, a18, a19, a20, a21⟩ := u
  exact nm_r (nI_1 r) hu
/-- a body of one number, worked off -/
theorem rq_workC (hk : k < 8) (hr : r + 5 < 4000) (h16 : a16 0 = nI k) (h17 : ¬ a17 0 = 0) (h18 : a18 0 = nI 0) (h14 : a14 k = 0) (b1 : a1 k = nI 1) (b2 : a2 (k * 10) = 0) (b3 : a3 (k * 10) = c)
    (H : ∀ a11' a18' a19' : Nat → Int32, post 1 (h, rv, sc, 0, 0, 0, a1, a2, a3, a4, a5, a6, upd a7 k 1, upd a8 k 0, upd a9 k c, upd a10 k rv, a11', a12, upd a13 k 1, a14, a15, a16, a17, a18', a19', a20, a21)) :
    wX_ensure_30 post x1 (n + 3) (nI r) h rv sc (nI 1) (nI 0) 0 a1 a2 a3 a4 a5 a6 a7 a8 a9 a10 a11 a12 a13 a14 a15 a16 a17 a18 a19 a20 a21 :=
  rq_lWork (n := n + 2) (by omega) h17 (fun _ K => rq_wNum (p := 0) (t := 0) hk (by omega) (by omega) h16 h18 (by rw [b1]; decide) b2 b3 (K _ (rq_ei
    (rq_lWork (n := n + 1) (r := r + 1) (by omega) h17 (fun _ K => rq_wEnd (i := 0) hk h16 (by rw [pk_us, b1]) (Or.inl ⟨h14, rfl⟩) pk_us (fun a11' => K _ (rq_ei (rq_lEnd (H a11' _ _)))))))))
/-- a body of an input, a number, an operation, worked off -/
theorem rq_workD (hk : k < 8) (hi : i < 6) (hr : r + 5 < 4000) (h16 : a16 0 = nI k) (h17 : ¬ a17 0 = 0) (h18 : a18 0 = nI 0) (h14 : a14 k = nI 0) (b1 : a1 k = nI 3) (b2 : a2 (k * 10) = 1) (b3 : a3 (k * 10) = nI i)
    (b4 : a2 (k * 10 + 1) = 0) (b5 : a3 (k * 10 + 1) = nn) (b6 : a2 (k * 10 + 2) = 4) (b7 : a3 (k * 10 + 2) = op) (hv : rq_cb op (a5 i) nn = v)
    (H : ∀ a11' a18' a19' : Nat → Int32, post 1 (h, rv, sc, 0, 0, 0, a1, a2, a3, a4, a5, a6, upd a7 k 1, upd a8 k 0, upd a9 k v, upd a10 k rv, a11', a12, upd a13 k (if i < 3 then 0 else 1), upd a14 k (nI 1), upd a15 (k * 10) (nI i), a16, a17, a18', a19', a20, a21)) :
    wX_ensure_30 post x1 (n + 5) (nI r) h rv sc (nI 1) (nI 0) 0 a1 a2 a3 a4 a5 a6 a7 a8 a9 a10 a11 a12 a13 a14 a15 a16 a17 a18 a19 a20 a21 :=
  rq_lWork (n := n + 4) (by omega) h17 (fun _ K => rq_wIn (p := 0) (t := 0) (m := 0) hk (by omega) (by omega) hi (by omega) h16 h18 (by rw [b1]; decide) b2 b3 h14 (K _ (rq_ei
    (rq_lWork (n := n + 3) (r := r + 1) (by omega) h17 (fun _ K => rq_wNum (p := 1) (t := 1) hk (by omega) (by omega) h16 pk_us (by rw [b1]; decide) b4 b5 (K _ (rq_ei
      (rq_lWork (n := n + 2) (r := r + 2) (by omega) h17 (fun _ K => rq_wAp (p := 2) (v := v) hk (by omega) h16 pk_us (by rw [b1]; decide) b6 (by rw [b7, pk_us, pk_un (by omega), pk_us]; exact hv) (K _ (rq_ei
        (rq_lWork (n := n + 1) (r := r + 3) (by omega) h17 (fun _ K => rq_wEnd (i := i) hk h16 (by rw [pk_us, b1]) (Or.inr ⟨pk_us, pk_us, hi, rfl⟩) pk_us (fun a11' => K _ (rq_ei (rq_lEnd (H a11' _ _)))))))))))))))))
/-- ensure at a query whose body is one number -/
theorem rq_ensC (hk : k < 8) (b1 : a1 k = nI 1) (b2 : a2 (k * 10) = 0) (b3 : a3 (k * 10) = c) (h12 : ¬ a12 k = rv)
    (hs : ¬ a7 k = 0 → a8 k = 0 ∧ a14 k = 0 ∧ ¬ a13 k = 0 ∧ a9 k = c)
    (H : ∀ (tp' : Int32) (a7' a8' a9' a10' a11' a13' a14' a15' a16' a17' a18' a19' : Nat → Int32), rq_nw k c rv a7 a8 a9 a10 a13 a14 a15 a7' a8' a9' a10' a13' a14' a15' → a14' k = 0 → ¬ a13' k = 0 → post 1 (h, rv, sc, 0, tp', 0, a1, a2, a3, a4, a5, a6, a7', a8', a9', a10', a11', a12, a13', a14', a15', a16', a17', a18', a19', a20, a21)) :
    wpX_ensure post (h, rv, sc, fr, tp, fl, a1, a2, a3, a4, a5, a6, a7, a8, a9, a10, a11, a12, a13, a14, a15, a16, a17, a18, a19, a20, a21) (nI k) := by
  unfold wpX_ensure
  dsimp only
  by_cases f : ¬ a7 k = 0 ∧ a10 k = rv
  · obtain ⟨s8, s14, s13, s9⟩ := hs f.1
    exact rq_fresh1 hk f.1 s8 f.2 (br_f (by decide) (Exists.intro 1 (rq_lEnd (H _ _ _ _ _ _ _ _ _ _ _ _ _ ⟨rq_sm_r, rq_sm_r, rq_sm_r, rq_sm_r, rq_sm_r, rq_sm_r, rq_sm_r, f.1, s8, s9, f.2⟩ s14 s13))))
  · refine rq_fresh0 hk (by by_cases e : a7 k = 0; exact Or.inl e; exact Or.inr (fun z => f ⟨e, z⟩)) (br_t rfl (rq_req hk h12 (fun e => (hs e).1) (fun c7 => ?_) (fun c7 => ?_) (fun c7 c13 c10 => ?_)))
    · dsimp only
      refine Exists.intro 3 (rq_workC (n := 0) (r := 0) hk (by omega) pk_us (by rw [pk_us]; decide) pk_us pk_us b1 b2 b3 (fun a11' a18' a19' => H _ _ _ _ _ _ _ _ _ _ _ _ _ ⟨rq_sm_u rq_sm_r, rq_sm_u (rq_sm_u rq_sm_r), rq_sm_u rq_sm_r, rq_sm_u rq_sm_r, rq_sm_u rq_sm_r, rq_sm_u rq_sm_r, rq_sm_r, ?_, pk_us, pk_us, pk_us⟩ pk_us ?_))
      · rw [pk_us]; decide
      · rw [pk_us]; decide
    · obtain ⟨s8, s14, s13, s9⟩ := hs c7
      dsimp only
      refine Exists.intro 2 (rq_lCheck (n := 1) (r := 0) (by omega) pk_us (fun _ K => rq_cEnd (i := 0) hk pk_us (by rw [pk_us, s14]) (Or.inl ⟨s14, rfl⟩) (K _ (rq_ei (rq_lEnd (H _ _ _ _ _ _ _ _ _ _ _ _ _ ⟨rq_sm_r, rq_sm_r, rq_sm_r, rq_sm_u rq_sm_r, rq_sm_u rq_sm_r, rq_sm_r, rq_sm_r, c7, s8, s9, pk_us⟩ s14 ?_))))))
      rw [pk_us]; decide
    · obtain ⟨s8, s14, s13, s9⟩ := hs c7
      dsimp only
      exact Exists.intro 1 (rq_lEnd (H _ _ _ _ _ _ _ _ _ _ _ _ _ ⟨rq_sm_r, rq_sm_r, rq_sm_r, rq_sm_u rq_sm_r, rq_sm_r, rq_sm_r, rq_sm_r, c7, s8, s9, pk_us⟩ s14 s13))
theorem rq_st3 (h : ¬ (if i < 3 then (0 : Int32) else 1) = 0) : 3 ≤ i := by
  by_cases c : i < 3
  · rw [if_pos c] at h
    exact absurd rfl h
  · omega
/-- ensure at a query whose body is an input, a number, an operation -/
theorem rq_ensD (hk : k < 8) (hi : i < 6) (b1 : a1 k = nI 3) (b2 : a2 (k * 10) = 1) (b3 : a3 (k * 10) = nI i)
    (b4 : a2 (k * 10 + 1) = 0) (b5 : a3 (k * 10 + 1) = nn) (b6 : a2 (k * 10 + 2) = 4) (b7 : a3 (k * 10 + 2) = op) (hv : rq_cb op (a5 i) nn = v) (h12 : ¬ a12 k = rv)
    (h6 : a6 i ≤ rv) (hc : 3 ≤ i → a6 i ≤ sc)
    (hs : ¬ a7 k = 0 → a8 k = 0 ∧ a14 k = 1 ∧ a15 (k * 10) = nI i ∧ (¬ a13 k = 0 → 3 ≤ i) ∧ (a6 i ≤ a10 k → a9 k = v))
    (H : ∀ (tp' : Int32) (a7' a8' a9' a10' a11' a13' a14' a15' a16' a17' a18' a19' : Nat → Int32), rq_nw k v rv a7 a8 a9 a10 a13 a14 a15 a7' a8' a9' a10' a13' a14' a15' → a14' k = 1 → a15' (k * 10) = nI i → (¬ a13' k = 0 → 3 ≤ i) → post 1 (h, rv, sc, 0, tp', 0, a1, a2, a3, a4, a5, a6, a7', a8', a9', a10', a11', a12, a13', a14', a15', a16', a17', a18', a19', a20, a21)) :
    wpX_ensure post (h, rv, sc, fr, tp, fl, a1, a2, a3, a4, a5, a6, a7, a8, a9, a10, a11, a12, a13, a14, a15, a16, a17, a18, a19, a20, a21) (nI k) := by
  unfold wpX_ensure
  dsimp only
  by_cases f : ¬ a7 k = 0 ∧ a10 k = rv
  · obtain ⟨s8, s14, s15, s13, s9⟩ := hs f.1
    exact rq_fresh1 hk f.1 s8 f.2 (br_f (by decide) (Exists.intro 1 (rq_lEnd (H _ _ _ _ _ _ _ _ _ _ _ _ _ ⟨rq_sm_r, rq_sm_r, rq_sm_r, rq_sm_r, rq_sm_r, rq_sm_r, rq_sm_r, f.1, s8, s9 (by rw [f.2]; exact h6), f.2⟩ s14 s15 s13))))
  · refine rq_fresh0 hk (by by_cases e : a7 k = 0; exact Or.inl e; exact Or.inr (fun z => f ⟨e, z⟩)) (br_t rfl (rq_req hk h12 (fun e => (hs e).1) (fun c7 => ?_) (fun c7 => ?_) (fun c7 c13 c10 => ?_)))
    · dsimp only
      refine Exists.intro 5 (rq_workD (n := 0) (r := 0) hk hi (by omega) pk_us (by rw [pk_us]; decide) pk_us pk_us b1 b2 b3 b4 b5 b6 b7 hv (fun a11' a18' a19' => H _ _ _ _ _ _ _ _ _ _ _ _ _ ⟨rq_sm_u rq_sm_r, rq_sm_u (rq_sm_u rq_sm_r), rq_sm_u rq_sm_r, rq_sm_u rq_sm_r, rq_sm_u rq_sm_r, rq_sm_u (rq_sm_u rq_sm_r), rq_sm_u rq_sm_r, ?_, pk_us, pk_us, pk_us⟩ pk_us pk_us (fun z => ?_)))
      · rw [pk_us]; decide
      · rw [pk_us] at z
        exact rq_st3 z
    · obtain ⟨s8, s14, s15, s13, s9⟩ := hs c7
      dsimp only
      refine Exists.intro 6 (rq_lCheck (n := 5) (r := 0) (by omega) pk_us (fun _ K => rq_cIn hk hi pk_us pk_us s14 s15 (fun g => K _ (rq_ei ?_)) (fun g => K _ (rq_ei ?_))))
      · refine rq_lCheck (n := 4) (r := 1) (by omega) pk_us (fun _ K => rq_cEnd (i := i) hk pk_us (by rw [pk_us, s14]) (Or.inr ⟨s14, s15, hi, rfl⟩) (K _ (rq_ei (rq_lEnd (H _ _ _ _ _ _ _ _ _ _ _ _ _ ⟨rq_sm_r, rq_sm_r, rq_sm_r, rq_sm_u rq_sm_r, rq_sm_u rq_sm_r, rq_sm_r, rq_sm_r, c7, s8, s9 g, pk_us⟩ s14 s15 (fun z => ?_))))))
        rw [pk_us] at z
        exact rq_st3 z
      · refine rq_workD (n := 0) (r := 1) hk hi (by omega) pk_us (by rw [pk_us]; decide) pk_us pk_us b1 b2 b3 b4 b5 b6 b7 hv (fun a11' a18' a19' => H _ _ _ _ _ _ _ _ _ _ _ _ _ ⟨rq_sm_u rq_sm_r, rq_sm_u (rq_sm_u rq_sm_r), rq_sm_u rq_sm_r, rq_sm_u rq_sm_r, rq_sm_u rq_sm_r, rq_sm_u (rq_sm_u rq_sm_r), rq_sm_u rq_sm_r, ?_, pk_us, pk_us, pk_us⟩ pk_us pk_us (fun z => ?_))
        · rw [pk_us]; decide
        · rw [pk_us] at z
          exact rq_st3 z
    · obtain ⟨s8, s14, s15, s13, s9⟩ := hs c7
      dsimp only
      exact Exists.intro 1 (rq_lEnd (H _ _ _ _ _ _ _ _ _ _ _ _ _ ⟨rq_sm_r, rq_sm_r, rq_sm_r, rq_sm_u rq_sm_r, rq_sm_r, rq_sm_r, rq_sm_r, c7, s8, s9 (Int32.le_trans (hc (s13 c13)) (Int32.not_lt.mp c10)), pk_us⟩ s14 s15 s13))
end
end
section
/-! the picture: query Q holds the body (an input i, a number n, an operation op) if d, the number n if not; every other query holds the number 0 -/
def rq_c (Q : Nat) (n : Int32) (k : Nat) : Int32 := if k = Q then n else 0
def rq_bd (D : Prop) (i : Nat) (n op c : Int32) (k : Nat) (a1 a2 a3 : Nat → Int32) : Prop :=
  (D → a1 k = nI 3 ∧ a2 (k * 10) = 1 ∧ a3 (k * 10) = nI i ∧ a2 (k * 10 + 1) = 0 ∧ a3 (k * 10 + 1) = n ∧ a2 (k * 10 + 2) = 4 ∧ a3 (k * 10 + 2) = op) ∧ (¬ D → a1 k = nI 1 ∧ a2 (k * 10) = 0 ∧ a3 (k * 10) = c)
def rq_ok (D : Prop) (i : Nat) (v c rv : Int32) (k : Nat) (a6 a7 a8 a9 a10 a13 a14 a15 : Nat → Int32) : Prop :=
  ¬ a7 k = 0 → a8 k = 0 ∧ a10 k ≤ rv ∧ (D → a14 k = 1 ∧ a15 (k * 10) = nI i ∧ (¬ a13 k = 0 → 3 ≤ i) ∧ (a6 i ≤ a10 k → a9 k = v)) ∧ (¬ D → a14 k = 0 ∧ ¬ a13 k = 0 ∧ a9 k = c)
def rq_clk (R i : Nat) (rv sc : Int32) (a6 : Nat → Int32) : Prop := ∃ r s g : Nat, rv = nI r ∧ 0 < r ∧ r ≤ R ∧ sc = nI s ∧ s ≤ r ∧ a6 i = nI g ∧ g ≤ r ∧ (3 ≤ i → g ≤ s)
def rq_Inv (R Q : Nat) (d : Bool) (i : Nat) (n op : Int32) (rv sc : Int32) (a1 a2 a3 a5 a6 a7 a8 a9 a10 a12 a13 a14 a15 : Nat → Int32) : Prop :=
  i < 6 ∧ rq_clk R i rv sc a6 ∧ (∀ k, k < 8 → a12 k = 0) ∧ (∀ k, k < 8 → rq_bd (k = Q ∧ d = true) i n op (rq_c Q n k) k a1 a2 a3) ∧
  (∀ k, k < 8 → rq_ok (k = Q ∧ d = true) i (rq_cb op (a5 i) n) (rq_c Q n k) rv k a6 a7 a8 a9 a10 a13 a14 a15)
/-- the value of query k -/
def rq_x (d : Bool) (n op g : Int32) : Int32 := if d = true then rq_cb op g n else n
def rq_cv (Q : Nat) (x : Int32) (k : Nat) : Int32 := if k = Q then x else 0
theorem rq_cvD {Q k : Nat} {d : Bool} {n op g : Int32} (h : k = Q ∧ d = true) : rq_cb op g n = rq_cv Q (rq_x d n op g) k := by
  rw [rq_cv, if_pos h.1, rq_x, if_pos h.2]
theorem rq_cvC {Q k : Nat} {d : Bool} {n op g : Int32} (h : ¬ (k = Q ∧ d = true)) : rq_c Q n k = rq_cv Q (rq_x d n op g) k := by
  by_cases e : k = Q
  · rw [rq_c, rq_cv, if_pos e, if_pos e, rq_x, if_neg (fun z => h ⟨e, z⟩)]
  · rw [rq_c, rq_cv, if_neg e, if_neg e]
theorem rq_okN {D D' : Prop} {i k j : Nat} {v c rv vk : Int32} {a6 a7 a8 a9 a10 a13 a14 a15 a7' a8' a9' a10' a13' a14' a15' : Nat → Int32} (hj : j ≠ k)
    (h : rq_ok D i v c rv j a6 a7 a8 a9 a10 a13 a14 a15) (w : rq_nw k vk rv a7 a8 a9 a10 a13 a14 a15 a7' a8' a9' a10' a13' a14' a15') : rq_ok D i v c rv j a6 a7' a8' a9' a10' a13' a14' a15' := by
  obtain ⟨w7, w8, w9, w10, w13, w14, w15, _⟩ := w
  unfold rq_ok at h ⊢
  rw [w7 j hj, w8 j hj, w9 j hj, w10 j hj, w13 j hj, w14 j hj, w15 (j * 10) (by omega)]
  exact h
section
variable {post : Int32 → St2 → Prop} {h rv sc fr tp fl : Int32} {a1 a2 a3 a4 a5 a6 a7 a8 a9 a10 a11 a12 a13 a14 a15 a16 a17 a18 a19 a20 a21 : Nat → Int32} {R Q k i : Nat} {d : Bool} {n op : Int32}
/-- ENSURE, over the picture -/
theorem rq_ens (hk : k < 8) (hR : R ≤ 1000) (hI : rq_Inv R Q d i n op rv sc a1 a2 a3 a5 a6 a7 a8 a9 a10 a12 a13 a14 a15)
    (H : ∀ (tp' : Int32) (a7' a8' a9' a10' a11' a13' a14' a15' a16' a17' a18' a19' : Nat → Int32), rq_Inv R Q d i n op rv sc a1 a2 a3 a5 a6 a7' a8' a9' a10' a12 a13' a14' a15' → a9' k = rq_cv Q (rq_x d n op (a5 i)) k →
      ((k = Q ∧ d = true) → a14' k = 1 ∧ a15' (k * 10) = nI i) → (¬ (k = Q ∧ d = true) → a14' k = 0) → post 1 (h, rv, sc, 0, tp', 0, a1, a2, a3, a4, a5, a6, a7', a8', a9', a10', a11', a12, a13', a14', a15', a16', a17', a18', a19', a20, a21)) :
    wpX_ensure post (h, rv, sc, fr, tp, fl, a1, a2, a3, a4, a5, a6, a7, a8, a9, a10, a11, a12, a13, a14, a15, a16, a17, a18, a19, a20, a21) (nI k) := by
  obtain ⟨hi, hclk, h12, hb, ho⟩ := hI
  have hclk' := hclk
  obtain ⟨r, s, g, er, r0, rR, es, sr, eg, gr, gs⟩ := hclk'
  have n12 : ¬ a12 k = rv := by
    rw [h12 k hk, er]
    intro z
    exact nI_ne0 r0 (by omega) z.symm
  have l6 : a6 i ≤ rv := by rw [eg, er]; exact nI_le gr (by omega)
  have lsc : 3 ≤ i → a6 i ≤ sc := fun c => by rw [eg, es]; exact nI_le (gs c) (by omega)
  have lrv : rv ≤ rv := Int32.le_refl rv
  by_cases D : k = Q ∧ d = true
  · obtain ⟨b1, b2, b3, b4, b5, b6, b7⟩ := (hb k hk).1 D
    refine rq_ensD hk hi b1 b2 b3 b4 b5 b6 b7 rfl n12 l6 lsc (fun c7 => ?_) (fun tp' a7' a8' a9' a10' a11' a13' a14' a15' a16' a17' a18' a19' w e14 e15 e13 => ?_)
    · obtain ⟨s8, _, sD, _⟩ := ho k hk c7
      exact ⟨s8, (sD D).1, (sD D).2.1, (sD D).2.2.1, (sD D).2.2.2⟩
    · refine H _ _ _ _ _ _ _ _ _ _ _ _ _ ⟨hi, hclk, h12, hb, fun j hj => ?_⟩ ?_ (fun _ => ⟨e14, e15⟩) (fun z => absurd D z)
      · by_cases e : j = k
        · obtain ⟨_, _, _, _, _, _, _, w7, w8, w9, w10⟩ := w
          rw [e]
          intro _
          exact ⟨w8, by rw [w10]; exact lrv, fun _ => ⟨e14, e15, e13, fun _ => w9⟩, fun z => absurd D z⟩
        · exact rq_okN (D' := True) e (ho j hj) w
      · rw [← rq_cvD D]
        exact w.2.2.2.2.2.2.2.2.2.1
  · obtain ⟨b1, b2, b3⟩ := (hb k hk).2 D
    refine rq_ensC hk b1 b2 b3 n12 (fun c7 => ?_) (fun tp' a7' a8' a9' a10' a11' a13' a14' a15' a16' a17' a18' a19' w e14 e13 => ?_)
    · obtain ⟨s8, _, _, sC⟩ := ho k hk c7
      exact ⟨s8, (sC D).1, (sC D).2.1, (sC D).2.2⟩
    · refine H _ _ _ _ _ _ _ _ _ _ _ _ _ ⟨hi, hclk, h12, hb, fun j hj => ?_⟩ ?_ (fun z => absurd z D) (fun _ => e14)
      · by_cases e : j = k
        · obtain ⟨_, _, _, _, _, _, _, w7, w8, w9, w10⟩ := w
          rw [e]
          intro _
          exact ⟨w8, by rw [w10]; exact lrv, fun z => absurd z D, fun _ => ⟨e14, e13, w9⟩⟩
        · exact rq_okN (D' := True) e (ho j hj) w
      · rw [← rq_cvC D]
        exact w.2.2.2.2.2.2.2.2.2.1
end
end
section
/-! the constructor, set, append and finish -/
theorem rq_out {x a b : Int32} (hab : b.toInt = a.toInt + 1) (hx : x < 0 ∨ a < x) (c : ¬ x < 0) : ¬ x < b := by
  intro e
  rcases hx with hx | hx
  · exact c hx
  · rw [Int32.lt_iff_toInt_lt] at hx e
    omega
section
variable {pu : St2 → Prop} {pb : Int32 → Prop} {post : Int32 → St2 → Prop} {h rv sc fr tp fl : Int32} {a1 a2 a3 a4 a5 a6 a7 a8 a9 a10 a11 a12 a13 a14 a15 a16 a17 a18 a19 a20 a21 : Nat → Int32} {R Q k i m q : Nat} {d : Bool} {n op x y z : Int32}
theorem rq_init_l {mc ms kc ks : Nat} (H : ∀ a1' a8' : Nat → Int32, (∀ j, j < 8 → a1' j = nI 1) → a1' 8 = 0 → pu (h, rv, sc, fr, tp, fl, a1', a2, a3, a4, a5, a6, a7, a8', a9, a10, a11, a12, a13, a14, a15, a16, a17, a18, a19, a20, a21)) : ∀ (m k : Nat), k + m = 8 → ∀ a1 a8 : Nat → Int32, (∀ j, j < k → a1 j = nI 1) → a1 8 = 0 →
    wX_init_179 pu mc ms kc ks h rv sc fr tp fl (m + 1) (nI k) a1 a2 a3 a4 a5 a6 a7 a8 a9 a10 a11 a12 a13 a14 a15 a16 a17 a18 a19 a20 a21 := by
  intro m
  induction m with
  | zero =>
    intro k hk a1 a8 h1 h8
    have e : k = 8 := by omega
    subst e
    exact br_t (by decide) (H _ _ h1 h8)
  | succ m ih =>
    intro k hk a1 a8 h1 h8
    refine pk_le 8 k (fun c => absurd c (by omega)) (fun c => ⟨pk_in k 9 (by omega), ?_⟩)
    rw [nI_clamp (show k < 2 ^ 31 by omega)]
    refine nm_e ⟨pk_in k 8 (by omega), nm_e (nm_r (nI_1 k) (ih (k + 1) (by omega) _ _ (fun j hj => ?_) ?_))⟩
    · by_cases e : j = k
      · rw [e, pk_us]; rfl
      · rw [pk_un e]; exact h1 j (by omega)
    · rw [pk_un (by omega)]; exact h8
/-- a new object: every query holds the number 0, nothing is known -/
theorem rq_init {mc ms : Nat} (hc : 21 ≤ mc) (hs : 571 ≤ ms) (H : ∀ a1' a8' : Nat → Int32, (∀ j, j < 8 → a1' j = nI 1) → a1' 8 = 0 → pu (0, 1, 0, 0, 0, 0, a1', (fun _ => 0), (fun _ => 0), (fun _ => 0), (fun _ => 0), (fun _ => 0), (fun _ => 0), a8', (fun _ => 0), (fun _ => 0), (fun _ => 0), (fun _ => 0), (fun _ => 0), (fun _ => 0), (fun _ => 0), (fun _ => 0), (fun _ => 0), (fun _ => 0), (fun _ => 0), (fun _ => 0), (fun _ => 0))) :
    wpX_init pu mc ms (0, 0, 0, 0, 0, 0) := by
  unfold wpX_init
  dsimp only
  exact ⟨by omega, by omega, by omega, by omega, by omega, by omega, by omega, by omega, by omega, by omega, by omega, by omega, by omega, by omega, by omega, by omega, by omega, by omega, by omega, by omega, by omega, by omega, by omega, by omega, by omega, by omega, by omega, by omega, by omega, by omega, by omega, by omega, by omega, by omega, by omega, by omega, by omega, by omega, by omega, by omega, by omega, by omega, Exists.intro 9 (rq_init_l H 8 0 (by omega) _ _ (fun j hj => absurd hj (by omega)) rfl)⟩
theorem rq_set0 (hi : i < 6) (H0 : a5 i = x → post 0 (h, rv, sc, fr, tp, fl, a1, a2, a3, a4, a5, a6, a7, a8, a9, a10, a11, a12, a13, a14, a15, a16, a17, a18, a19, a20, a21)) (H1 : ¬ a5 i = x → i < 3 → post 1 (h, rv + 1, sc, fr, tp, fl, a1, a2, a3, a4, upd a5 i x, upd a6 i (rv + 1), a7, a8, a9, a10, a11, a12, a13, a14, a15, a16, a17, a18, a19, a20, a21)) (H2 : ¬ a5 i = x → 3 ≤ i → post 1 (h, rv + 1, rv + 1, fr, tp, fl, a1, a2, a3, a4, upd a5 i x, upd a6 i (rv + 1), a7, a8, a9, a10, a11, a12, a13, a14, a15, a16, a17, a18, a19, a20, a21)) :
    wpX_set post (h, rv, sc, fr, tp, fl, a1, a2, a3, a4, a5, a6, a7, a8, a9, a10, a11, a12, a13, a14, a15, a16, a17, a18, a19, a20, a21) (nI i) x := by
  unfold wpX_set
  dsimp only
  rw [nI_clamp (show i < 2 ^ 31 by omega)]
  exact br_f (nI_pos (by omega)) (br_t (nI_lt (b := 6) hi (by omega)) ⟨pk_in i 6 hi, br_c H0 (fun c => ⟨pk_in i 6 hi, nm_e (nm_e ⟨pk_in i 6 hi, nm_e (pk_lt i 3 (fun e => H1 c e) (fun e => H2 c e))⟩)⟩)⟩)
theorem rq_setB (hx : x < 0 ∨ 5 < x) (H : post (-1) (h, rv, sc, fr, tp, fl, a1, a2, a3, a4, a5, a6, a7, a8, a9, a10, a11, a12, a13, a14, a15, a16, a17, a18, a19, a20, a21)) : wpX_set post (h, rv, sc, fr, tp, fl, a1, a2, a3, a4, a5, a6, a7, a8, a9, a10, a11, a12, a13, a14, a15, a16, a17, a18, a19, a20, a21) x y := by
  unfold wpX_set
  dsimp only
  exact br_c (fun _ => H) (fun c => br_f (rq_out (a := 5) (b := 6) (by decide) hx c) H)
/-- set, over the picture -/
theorem rq_set (hR : R ≤ 1000) (hI : rq_Inv R Q d i n op rv sc a1 a2 a3 a5 a6 a7 a8 a9 a10 a12 a13 a14 a15)
    (H : ∀ r (rv' sc' : Int32) (a5' a6' : Nat → Int32), rq_Inv (R + 1) Q d i n op rv' sc' a1 a2 a3 a5' a6' a7 a8 a9 a10 a12 a13 a14 a15 → a5' i = x → post r (h, rv', sc', fr, tp, fl, a1, a2, a3, a4, a5', a6', a7, a8, a9, a10, a11, a12, a13, a14, a15, a16, a17, a18, a19, a20, a21)) :
    wpX_set post (h, rv, sc, fr, tp, fl, a1, a2, a3, a4, a5, a6, a7, a8, a9, a10, a11, a12, a13, a14, a15, a16, a17, a18, a19, a20, a21) (nI i) x := by
  obtain ⟨hi, hclk, h12, hb, ho⟩ := hI
  obtain ⟨r, s, g, er, r0, rR, es, sr, eg, gr, gs⟩ := hclk
  have er1 : rv + 1 = nI (r + 1) := by rw [er, nI_1]
  have le1 : rv ≤ rv + 1 := by rw [er1, er]; exact nI_le (by omega) (by omega)
  have ho' : ∀ k, k < 8 → rq_ok (k = Q ∧ d = true) i (rq_cb op (upd a5 i x i) n) (rq_c Q n k) (rv + 1) k (upd a6 i (rv + 1)) a7 a8 a9 a10 a13 a14 a15 := by
    intro k hk c7
    obtain ⟨s8, s10, sD, sC⟩ := ho k hk c7
    refine ⟨s8, Int32.le_trans s10 le1, fun D => ⟨(sD D).1, (sD D).2.1, (sD D).2.2.1, fun z => ?_⟩, sC⟩
    rw [pk_us] at z
    have z2 := Int32.le_trans z s10
    rw [er1, er] at z2
    exact absurd z2 (nI_ge (by omega) (by omega))
  refine rq_set0 hi (fun e => H 0 _ _ _ _ ⟨hi, ⟨r, s, g, er, r0, by omega, es, sr, eg, gr, gs⟩, h12, hb, ho⟩ e) (fun _ c => ?_) (fun _ c => ?_)
  · exact H 1 _ _ _ _ ⟨hi, ⟨r + 1, s, r + 1, er1, by omega, by omega, es, by omega, by rw [pk_us, er1], by omega, by omega⟩, h12, hb, ho'⟩ pk_us
  · exact H 1 _ _ _ _ ⟨hi, ⟨r + 1, r + 1, r + 1, er1, by omega, by omega, er1, by omega, by rw [pk_us, er1], by omega, by omega⟩, h12, hb, ho'⟩ pk_us
theorem rq_full (hm : a1 8 = nI m) (h10 : m < 10) (H : pb 0) : wpX_draftFull pb (h, rv, sc, fr, tp, fl, a1, a2, a3, a4, a5, a6, a7, a8, a9, a10, a11, a12, a13, a14, a15, a16, a17, a18, a19, a20, a21) := by
  unfold wpX_draftFull
  dsimp only
  rw [hm]
  exact br_f (fun e => absurd ((nI_eq (b := 10) (by omega) (by omega)).mp e) (by omega)) H
/-- append: the draft is one longer -/
theorem rq_app (hm : a1 8 = nI m) (h10 : m < 10) (H : ∀ a4' : Nat → Int32, post (h + z) (h + z, rv, sc, fr, tp, fl, upd a1 8 (nI (m + 1)), upd a2 (80 + m) x, upd a3 (80 + m) y, a4', a5, a6, a7, a8, a9, a10, a11, a12, a13, a14, a15, a16, a17, a18, a19, a20, a21)) : wpX_append post (h, rv, sc, fr, tp, fl, a1, a2, a3, a4, a5, a6, a7, a8, a9, a10, a11, a12, a13, a14, a15, a16, a17, a18, a19, a20, a21) x y 0 z := by
  unfold wpX_append
  dsimp only
  rw [hm, nI_1 m, show (80 : Int32) + nI m = nI (80 + m) from nI_add 80 m]
  refine nm_e ⟨vp_in_nI (by omega) (by omega), ?_⟩
  rw [nI_clamp (show 80 + m < 2 ^ 31 by omega)]
  exact nm_e ⟨vp_in_nI (by omega) (by omega), nm_e ⟨vp_in_nI (by omega) (by omega), nm_e (nm_e (nm_e (H _)))⟩⟩
theorem rq_num (hm : a1 8 = nI m) (h10 : m < 10) (H : ∀ a4' : Nat → Int32, post (h + 1) (h + 1, rv, sc, fr, tp, fl, upd a1 8 (nI (m + 1)), upd a2 (80 + m) 0, upd a3 (80 + m) x, a4', a5, a6, a7, a8, a9, a10, a11, a12, a13, a14, a15, a16, a17, a18, a19, a20, a21)) : wpX_num post (h, rv, sc, fr, tp, fl, a1, a2, a3, a4, a5, a6, a7, a8, a9, a10, a11, a12, a13, a14, a15, a16, a17, a18, a19, a20, a21) x := by
  unfold wpX_num
  dsimp only
  exact rq_full hm h10 (br_t rfl (rq_app hm h10 H))
theorem rq_input (hi : i < 6) (hm : a1 8 = nI m) (h10 : m < 10) (H : ∀ a4' : Nat → Int32, post (h + 1) (h + 1, rv, sc, fr, tp, fl, upd a1 8 (nI (m + 1)), upd a2 (80 + m) 1, upd a3 (80 + m) (nI i), a4', a5, a6, a7, a8, a9, a10, a11, a12, a13, a14, a15, a16, a17, a18, a19, a20, a21)) : wpX_input post (h, rv, sc, fr, tp, fl, a1, a2, a3, a4, a5, a6, a7, a8, a9, a10, a11, a12, a13, a14, a15, a16, a17, a18, a19, a20, a21) (nI i) := by
  unfold wpX_input
  dsimp only
  exact br_f (nI_pos (by omega)) (br_t (nI_lt (b := 6) hi (by omega)) (rq_full hm h10 (br_t rfl (rq_app hm h10 H))))
theorem rq_inputB (hx : x < 0 ∨ 5 < x) (H : post (-1) (h, rv, sc, fr, tp, fl, a1, a2, a3, a4, a5, a6, a7, a8, a9, a10, a11, a12, a13, a14, a15, a16, a17, a18, a19, a20, a21)) : wpX_input post (h, rv, sc, fr, tp, fl, a1, a2, a3, a4, a5, a6, a7, a8, a9, a10, a11, a12, a13, a14, a15, a16, a17, a18, a19, a20, a21) x := by
  unfold wpX_input
  dsimp only
  exact br_c (fun _ => H) (fun c => br_f (rq_out (a := 5) (b := 6) (by decide) hx c) H)
theorem rq_applyB (hx : x < 0 ∨ 3 < x) (H : post (-1) (h, rv, sc, fr, tp, fl, a1, a2, a3, a4, a5, a6, a7, a8, a9, a10, a11, a12, a13, a14, a15, a16, a17, a18, a19, a20, a21)) : wpX_apply post (h, rv, sc, fr, tp, fl, a1, a2, a3, a4, a5, a6, a7, a8, a9, a10, a11, a12, a13, a14, a15, a16, a17, a18, a19, a20, a21) x := by
  unfold wpX_apply
  dsimp only
  refine br_c (fun _ => H) (fun c => br_f (fun e => ?_) H)
  exact hx.elim c (fun z => absurd e (Int32.not_le.mpr z))
theorem rq_apply (hx : ¬ x < 0) (hx3 : ¬ 3 < x) (hm : a1 8 = nI m) (h10 : m < 10) (hh : h = nI 2) (H : ∀ a4' : Nat → Int32, post (h + (-1)) (h + (-1), rv, sc, fr, tp, fl, upd a1 8 (nI (m + 1)), upd a2 (80 + m) 4, upd a3 (80 + m) x, a4', a5, a6, a7, a8, a9, a10, a11, a12, a13, a14, a15, a16, a17, a18, a19, a20, a21)) : wpX_apply post (h, rv, sc, fr, tp, fl, a1, a2, a3, a4, a5, a6, a7, a8, a9, a10, a11, a12, a13, a14, a15, a16, a17, a18, a19, a20, a21) x := by
  unfold wpX_apply
  dsimp only
  exact br_f hx (br_t (Int32.not_lt.mp hx3) (rq_full hm h10 (br_t rfl (br_t (by rw [hh]; decide) (rq_app hm h10 H)))))
theorem rq_applyL (hx : ¬ x < 0) (hx3 : ¬ 3 < x) (hm : a1 8 = nI m) (h10 : m < 10) (hh : h = nI 1) (H : post (-3) (h, rv, sc, fr, tp, fl, a1, a2, a3, a4, a5, a6, a7, a8, a9, a10, a11, a12, a13, a14, a15, a16, a17, a18, a19, a20, a21)) : wpX_apply post (h, rv, sc, fr, tp, fl, a1, a2, a3, a4, a5, a6, a7, a8, a9, a10, a11, a12, a13, a14, a15, a16, a17, a18, a19, a20, a21) x := by
  unfold wpX_apply
  dsimp only
  exact br_f hx (br_t (Int32.not_lt.mp hx3) (rq_full hm h10 (br_t rfl (br_f (by rw [hh]; decide) H))))
theorem rq_badB (hx : x < 0 ∨ 7 < x) (H : pb 1) : wpX_badQuery pb (h, rv, sc, fr, tp, fl, a1, a2, a3, a4, a5, a6, a7, a8, a9, a10, a11, a12, a13, a14, a15, a16, a17, a18, a19, a20, a21) x := by
  unfold wpX_badQuery
  dsimp only
  exact br_c (fun _ => H) (fun c => br_f (rq_out (a := 7) (b := 8) (by decide) hx c) H)
theorem rq_bad (hk : k < 8) (H : pb 0) : wpX_badQuery pb (h, rv, sc, fr, tp, fl, a1, a2, a3, a4, a5, a6, a7, a8, a9, a10, a11, a12, a13, a14, a15, a16, a17, a18, a19, a20, a21) (nI k) := by
  unfold wpX_badQuery
  dsimp only
  exact br_f (nI_pos (by omega)) (br_t (nI_lt (b := 8) hk (by omega)) H)
theorem rq_finishB (hx : x < 0 ∨ 7 < x) (H : post (-1) (h, rv, sc, fr, tp, fl, a1, a2, a3, a4, a5, a6, a7, a8, a9, a10, a11, a12, a13, a14, a15, a16, a17, a18, a19, a20, a21)) : wpX_finish post (h, rv, sc, fr, tp, fl, a1, a2, a3, a4, a5, a6, a7, a8, a9, a10, a11, a12, a13, a14, a15, a16, a17, a18, a19, a20, a21) x := by
  unfold wpX_finish
  dsimp only
  exact rq_badB hx (br_f (by decide) H)
theorem rq_finishH (hk : k < 8) (hh : ¬ h = 1) (H : post (-3) (h, rv, sc, fr, tp, fl, a1, a2, a3, a4, a5, a6, a7, a8, a9, a10, a11, a12, a13, a14, a15, a16, a17, a18, a19, a20, a21)) : wpX_finish post (h, rv, sc, fr, tp, fl, a1, a2, a3, a4, a5, a6, a7, a8, a9, a10, a11, a12, a13, a14, a15, a16, a17, a18, a19, a20, a21) (nI k) := by
  unfold wpX_finish
  dsimp only
  exact rq_bad hk (br_t rfl (br_f hh H))
/-- a block of m places is copied from 80 on to b on; the rest stands -/
def rq_cp (b m : Nat) (a a' : Nat → Int32) : Prop := (∀ t, t < m → a' (b + t) = a (80 + t)) ∧ (∀ j, j < b ∨ b + m ≤ j → a' j = a j)
theorem rq_cp_0 {b : Nat} {a : Nat → Int32} : rq_cp b 0 a a := ⟨fun t ht => absurd ht (by omega), fun _ _ => rfl⟩
theorem rq_cp_s {b t : Nat} {a a' : Nat → Int32} (hb : b + t < 80) (h : rq_cp b t a a') : rq_cp b (t + 1) a (upd a' (b + t) (a' (80 + t))) := by
  obtain ⟨h1, h2⟩ := h
  refine ⟨fun j hj => ?_, fun j hj => ?_⟩
  · by_cases e : j = t
    · rw [e, pk_us]
      exact h2 _ (Or.inr (by omega))
    · rw [pk_un (by omega)]
      exact h1 j (by omega)
  · rw [pk_un (by omega)]
    exact h2 j (by omega)
theorem rq_fin_l (hq : q < 8) (hm : m ≤ 10) (H : ∀ a2' a3' a4' : Nat → Int32, rq_cp (q * 10) m a2 a2' → rq_cp (q * 10) m a3 a3' → post (nI m) (0, rv + 1, rv + 1, fr, tp, fl, upd (upd a1 q (nI m)) 8 0, a2', a3', a4', a5, a6, a7, upd a8 q 1, a9, a10, a11, a12, a13, a14, a15, a16, a17, a18, a19, a20, a21)) :
    ∀ (e t : Nat), t + e = m → ∀ a2' a3' a4' : Nat → Int32, rq_cp (q * 10) t a2 a2' → rq_cp (q * 10) t a3 a3' → wX_finish_31 post (nI q) (nI m) h rv sc fr tp fl (e + 1) (nI t) a1 a2' a3' a4' a5 a6 a7 a8 a9 a10 a11 a12 a13 a14 a15 a16 a17 a18 a19 a20 a21 := by
  intro e
  induction e with
  | zero =>
    intro t ht a2' a3' a4' c2 c3
    have e : t = m := by omega
    subst e
    refine pk_le t t (fun _ => ⟨pk_in q 9 (by omega), ?_⟩) (fun c => absurd c (by omega))
    rw [nI_clamp (show q < 2 ^ 31 by omega)]
    refine nm_e ?_
    unfold wpX_scrap
    dsimp only
    exact nm_e ⟨pk_in q 8 hq, nm_e (nm_e (H _ _ _ c2 c3))⟩
  | succ e ih =>
    intro t ht a2' a3' a4' c2 c3
    refine pk_le m t (fun c => absurd c (by omega)) (fun _ => ?_)
    rw [rq_ix, show (80 : Int32) + nI t = nI (80 + t) from nI_add 80 t, nI_clamp (show q * 10 + t < 2 ^ 31 by omega), nI_clamp (show 80 + t < 2 ^ 31 by omega)]
    exact ⟨vp_in_nI (by omega) (by omega), vp_in_nI (by omega) (by omega), nm_e ⟨vp_in_nI (by omega) (by omega), vp_in_nI (by omega) (by omega), nm_e ⟨vp_in_nI (by omega) (by omega), vp_in_nI (by omega) (by omega), nm_e (nm_r (nI_1 t) (ih (t + 1) (by omega) _ _ _ (rq_cp_s (by omega) c2) (rq_cp_s (by omega) c3)))⟩⟩⟩
/-- finish: the draft (body 8) becomes the body of q -/
theorem rq_finish (hR : R ≤ 1000) (hq : q < 8) (hh : h = nI 1) (h7 : ∀ k, k < 8 → a7 k = 0) (hI : rq_Inv R 8 false i n op rv sc a1 a2 a3 a5 a6 a7 a8 a9 a10 a12 a13 a14 a15) (hd : rq_bd (d = true) i n op n 8 a1 a2 a3)
    (H : ∀ (rv' sc' : Int32) (a1' a2' a3' a4' a8' : Nat → Int32), rq_Inv (R + 1) q d i n op rv' sc' a1' a2' a3' a5 a6 a7 a8' a9 a10 a12 a13 a14 a15 → a1' 8 = 0 → post (if d = true then nI 3 else nI 1) (0, rv', sc', fr, tp, fl, a1', a2', a3', a4', a5, a6, a7, a8', a9, a10, a11, a12, a13, a14, a15, a16, a17, a18, a19, a20, a21)) :
    wpX_finish post (h, rv, sc, fr, tp, fl, a1, a2, a3, a4, a5, a6, a7, a8, a9, a10, a11, a12, a13, a14, a15, a16, a17, a18, a19, a20, a21) (nI q) := by
  obtain ⟨hi, hclk, h12, hb, ho⟩ := hI
  obtain ⟨r, s, g, er, r0, rR, es, sr, eg, gr, gs⟩ := hclk
  have er1 : rv + 1 = nI (r + 1) := by rw [er, nI_1]
  have hml : ∃ m : Nat, a1 8 = nI m ∧ 1 ≤ m ∧ m ≤ 3 ∧ (d = true → m = 3) ∧ (¬ d = true → m = 1) := by
    by_cases D : d = true
    · exact ⟨3, (hd.1 D).1, by omega, by omega, fun _ => rfl, fun z => absurd D z⟩
    · exact ⟨1, (hd.2 D).1, by omega, by omega, fun z => absurd z D, fun _ => rfl⟩
  obtain ⟨m, em, m1, m3, mD, mC⟩ := hml
  have el : nI m = if d = true then nI 3 else nI 1 := by
    by_cases D : d = true
    · rw [if_pos D, mD D]
    · rw [if_neg D, mC D]
  unfold wpX_finish
  dsimp only
  rw [em]
  refine rq_bad hq (br_t rfl (br_t hh (nm_e (Exists.intro (m + 1) (rq_fin_l hq (by omega) (fun a2' a3' a4' c2 c3 => ?_) m 0 (by omega) _ _ _ rq_cp_0 rq_cp_0)))))
  rw [el]
  refine H _ _ _ _ _ _ _ ⟨hi, ⟨r + 1, r + 1, g, er1, by omega, by omega, er1, by omega, eg, by omega, by omega⟩, h12, fun k hk => ?_, fun k hk c7 => absurd (h7 k hk) c7⟩ pk_us
  by_cases e : k = q
  · subst e
    refine ⟨fun D => ?_, fun D => ?_⟩
    · obtain ⟨b1, b2, b3, b4, b5, b6, b7⟩ := hd.1 D.2
      have m3' := mD D.2
      refine ⟨by rw [pk_un (by omega), pk_us, if_pos D.2], ?_, ?_, ?_, ?_, ?_, ?_⟩
      · exact (c2.1 0 (by omega)).trans b2
      · exact (c3.1 0 (by omega)).trans b3
      · exact (c2.1 1 (by omega)).trans b4
      · exact (c3.1 1 (by omega)).trans b5
      · exact (c2.1 2 (by omega)).trans b6
      · exact (c3.1 2 (by omega)).trans b7
    · have D' : ¬ d = true := fun z => D ⟨rfl, z⟩
      obtain ⟨b1, b2, b3⟩ := hd.2 D'
      have m1' := mC D'
      refine ⟨by rw [pk_un (by omega), pk_us, if_neg D'], (c2.1 0 (by omega)).trans b2, ?_⟩
      rw [rq_c, if_pos rfl]
      exact (c3.1 0 (by omega)).trans b3
  · obtain ⟨b1, b2, b3⟩ := (hb k hk).2 (fun z => absurd z.2 (by decide))
    refine ⟨fun D => absurd D.1 e, fun _ => ⟨by rw [pk_un (by omega), pk_un e]; exact b1, ?_, ?_⟩⟩
    · rw [c2.2 _ (by omega)]; exact b2
    · rw [c3.2 _ (by omega), b3, rq_c, if_neg (by omega), rq_c, if_neg e]
end
end
section
/-! value, needs, total, stirred -/
theorem rq_bit0 : ∀ j, j < 8 → ¬ (((0 : Int32) >>> ((6 + nI j) &&& 31)) &&& 1) = 1 := by decide +kernel
theorem rq_bitI : ∀ i, i < 6 → ∀ j, j < 8 → ¬ ((((1 : Int32) <<< (nI i &&& 31)) >>> ((6 + nI j) &&& 31)) &&& 1) = 1 := by decide +kernel
/-- the set of inputs that query k needs -/
def rq_nd (D : Prop) (i : Nat) (y : Int32) : Prop := (D → y = (1 : Int32) <<< (nI i &&& 31)) ∧ (¬ D → y = 0)
theorem rq_nd_bit {D : Prop} {i j : Nat} {y : Int32} (h : rq_nd D i y) (hi : i < 6) (hj : j < 8) : ¬ ((y >>> ((6 + nI j) &&& 31)) &&& 1) = 1 := by
  by_cases c : D
  · rw [h.1 c]; exact rq_bitI i hi j hj
  · rw [h.2 c]; exact rq_bit0 j hj
theorem rq_or0 (x : Int32) : 0 ||| x = x := by
  exact Int32.toBitVec_inj.1 (BitVec.zero_or)
/-- the sum over the queries below k -/
def rq_sum (Q : Nat) (x : Int32) (k : Nat) : Int32 := if Q < k then (nI Q + 1) * x else 0
theorem rq_sum_s (Q : Nat) (x : Int32) (k : Nat) : rq_sum Q x k + (nI k + 1) * rq_cv Q x k = rq_sum Q x (k + 1) := by
  unfold rq_sum rq_cv
  by_cases c : k = Q
  · rw [if_pos c, if_neg (by omega), if_pos (by omega), c, Int32.zero_add]
  · rw [if_neg c, Int32.mul_zero, Int32.add_zero]
    by_cases e : Q < k
    · rw [if_pos e, if_pos (by omega)]
    · rw [if_neg e, if_neg (by omega)]
/-- the count of the queries below k whose value differs -/
def rq_cnt (Q : Nat) (x y : Int32) (k : Nat) : Int32 := if Q < k then (if x = y then 0 else 1) else 0
theorem rq_cnt_eq {Q k : Nat} {x y : Int32} (h : rq_cv Q x k = rq_cv Q y k) : rq_cnt Q x y k = rq_cnt Q x y (k + 1) := by
  unfold rq_cnt
  unfold rq_cv at h
  by_cases c : k = Q
  · rw [if_pos c, if_pos c] at h
    rw [if_neg (by omega), if_pos (by omega), if_pos h]
  · by_cases e : Q < k
    · rw [if_pos e, if_pos (show Q < k + 1 by omega)]
    · rw [if_neg e, if_neg (by omega)]
theorem rq_cnt_ne {Q k : Nat} {x y : Int32} (h : ¬ rq_cv Q x k = rq_cv Q y k) : rq_cnt Q x y k + 1 = rq_cnt Q x y (k + 1) := by
  unfold rq_cnt
  unfold rq_cv at h
  by_cases c : k = Q
  · rw [if_pos c, if_pos c] at h
    rw [if_neg (by omega), if_pos (by omega), if_neg h, Int32.zero_add]
  · rw [if_neg c, if_neg c] at h
    exact absurd rfl h
section
variable {pb : Int32 → Prop} {post : Int32 → St2 → Prop} {h rv sc fr tp fl : Int32} {a1 a2 a3 a4 a5 a6 a7 a8 a9 a10 a11 a12 a13 a14 a15 a16 a17 a18 a19 a20 a21 : Nat → Int32} {R Q k i m q : Nat} {d : Bool} {n op x y z : Int32}
theorem rq_valueB (hx : x < 0 ∨ 7 < x) (H : post 0 (h, rv, sc, fr, tp, fl, a1, a2, a3, a4, a5, a6, a7, a8, a9, a10, a11, a12, a13, a14, a15, a16, a17, a18, a19, a20, a21)) : wpX_value post (h, rv, sc, fr, tp, fl, a1, a2, a3, a4, a5, a6, a7, a8, a9, a10, a11, a12, a13, a14, a15, a16, a17, a18, a19, a20, a21) x := by
  unfold wpX_value
  dsimp only
  exact rq_badB hx (br_f (by decide) H)
theorem rq_value (hq : q < 8) (hR : R ≤ 1000) (hI : rq_Inv R Q d i n op rv sc a1 a2 a3 a5 a6 a7 a8 a9 a10 a12 a13 a14 a15)
    (H : ∀ (fr' fl' tp' : Int32) (a7' a8' a9' a10' a11' a13' a14' a15' a16' a17' a18' a19' : Nat → Int32), rq_Inv R Q d i n op rv sc a1 a2 a3 a5 a6 a7' a8' a9' a10' a12 a13' a14' a15' → post (rq_cv Q (rq_x d n op (a5 i)) q) (h, rv, sc, fr', tp', fl', a1, a2, a3, a4, a5, a6, a7', a8', a9', a10', a11', a12, a13', a14', a15', a16', a17', a18', a19', a20, a21)) :
    wpX_value post (h, rv, sc, fr, tp, fl, a1, a2, a3, a4, a5, a6, a7, a8, a9, a10, a11, a12, a13, a14, a15, a16, a17, a18, a19, a20, a21) (nI q) := by
  unfold wpX_value
  dsimp only
  refine rq_bad hq (br_t rfl (rq_ens hq hR hI (fun tp' a7' a8' a9' a10' a11' a13' a14' a15' a16' a17' a18' a19' hI' h9 _ _ => br_f (by decide) ⟨pk_in q 8 hq, ?_⟩)))
  dsimp only
  rw [nI_clamp (show q < 2 ^ 31 by omega), h9]
  exact H _ _ _ _ _ _ _ _ _ _ _ _ _ _ _ hI'
theorem rq_direct (hq : q < 8) (hD : (q = Q ∧ d = true) → a14 q = 1 ∧ a15 (q * 10) = nI i) (hC : ¬ (q = Q ∧ d = true) → a14 q = 0) (H : ∀ y, rq_nd (q = Q ∧ d = true) i y → pb y) : wpX_directNeeds pb (h, rv, sc, fr, tp, fl, a1, a2, a3, a4, a5, a6, a7, a8, a9, a10, a11, a12, a13, a14, a15, a16, a17, a18, a19, a20, a21) (nI q) := by
  unfold wpX_directNeeds
  dsimp only
  by_cases D : q = Q ∧ d = true
  · obtain ⟨h14, h15⟩ := hD D
    refine Exists.intro 2 (And.intro (pk_in q 8 hq) (br_f ?_ ⟨?_, ?_⟩))
    · rw [nI_clamp (show q < 2 ^ 31 by omega), h14]; decide
    · rw [rq_ix0]
      exact pk_in (q * 10) 80 (by omega)
    · rw [rq_ix0, nI_clamp (show q * 10 < 2 ^ 31 by omega), h15, rq_or0]
      refine nm_e (nm_r (e' := 1) (by decide) (And.intro (pk_in q 8 hq) (br_t ?_ (H _ ⟨fun _ => rfl, fun z => absurd D z⟩))))
      rw [nI_clamp (show q < 2 ^ 31 by omega), h14]; decide
  · refine Exists.intro 1 (And.intro (pk_in q 8 hq) (br_t ?_ (H _ ⟨fun z => absurd z D, fun _ => rfl⟩)))
    rw [nI_clamp (show q < 2 ^ 31 by omega), hC D]; decide
theorem rq_needs_in {D : Prop} {J : Int32 → Int32 → Prop} {x4 : Int32} (hn : rq_nd D i y) (hi : i < 6) (H : J y (x4 + 1)) : ∀ (e k : Nat), k + e = 8 → wX_needs_42 post J x4 h rv sc fr tp fl a1 a2 a3 a4 a5 a6 a7 a8 a9 a10 a11 a12 a13 a14 a15 a16 a17 a18 a19 a20 a21 (e + 1) y (nI k) := by
  intro e
  induction e with
  | zero =>
    intro k hk
    have e : k = 8 := by omega
    subst e
    exact br_t (by decide) (nm_e H)
  | succ e ih =>
    intro k hk
    exact pk_le 8 k (fun c => absurd c (by omega)) (fun _ => br_f (rq_nd_bit hn hi (by omega)) (nm_r (nI_1 k) (ih (k + 1) (by omega))))
theorem rq_needs_out {D : Prop} (hn : rq_nd D i y) (hi : i < 6) (H : post y (h, rv, sc, fr, tp, fl, a1, a2, a3, a4, a5, a6, a7, a8, a9, a10, a11, a12, a13, a14, a15, a16, a17, a18, a19, a20, a21)) : ∀ (e k : Nat), k + e = 8 → wX_needs_32 post h rv sc fr tp fl a1 a2 a3 a4 a5 a6 a7 a8 a9 a10 a11 a12 a13 a14 a15 a16 a17 a18 a19 a20 a21 (e + 1) y (nI k) := by
  intro e
  induction e with
  | zero =>
    intro k hk
    have e : k = 8 := by omega
    subst e
    exact br_t (by decide) H
  | succ e ih =>
    intro k hk
    refine pk_le 8 k (fun c => absurd c (by omega)) (fun _ => Exists.intro 9 (rq_needs_in hn hi ?_ 8 0 (by omega)))
    rw [nI_1]
    exact ih (k + 1) (by omega)
theorem rq_needsB (hx : x < 0 ∨ 7 < x) (H : post (-1) (h, rv, sc, fr, tp, fl, a1, a2, a3, a4, a5, a6, a7, a8, a9, a10, a11, a12, a13, a14, a15, a16, a17, a18, a19, a20, a21)) : wpX_needs post (h, rv, sc, fr, tp, fl, a1, a2, a3, a4, a5, a6, a7, a8, a9, a10, a11, a12, a13, a14, a15, a16, a17, a18, a19, a20, a21) x := by
  unfold wpX_needs
  dsimp only
  exact rq_badB hx (br_f (by decide) H)
theorem rq_needs (hq : q < 8) (hR : R ≤ 1000) (hI : rq_Inv R Q d i n op rv sc a1 a2 a3 a5 a6 a7 a8 a9 a10 a12 a13 a14 a15)
    (H : ∀ y (fr' fl' tp' : Int32) (a7' a8' a9' a10' a11' a13' a14' a15' a16' a17' a18' a19' : Nat → Int32), rq_Inv R Q d i n op rv sc a1 a2 a3 a5 a6 a7' a8' a9' a10' a12 a13' a14' a15' → rq_nd (q = Q ∧ d = true) i y → post y (h, rv, sc, fr', tp', fl', a1, a2, a3, a4, a5, a6, a7', a8', a9', a10', a11', a12, a13', a14', a15', a16', a17', a18', a19', a20, a21)) :
    wpX_needs post (h, rv, sc, fr, tp, fl, a1, a2, a3, a4, a5, a6, a7, a8, a9, a10, a11, a12, a13, a14, a15, a16, a17, a18, a19, a20, a21) (nI q) := by
  unfold wpX_needs
  dsimp only
  have hi := hI.1
  refine rq_bad hq (br_t rfl (rq_ens hq hR hI (fun tp' a7' a8' a9' a10' a11' a13' a14' a15' a16' a17' a18' a19' hI' _ hD hC => br_f (by decide) (rq_direct hq hD hC (fun y hy => Exists.intro 9 ?_)))))
  exact rq_needs_out hy hi (H _ _ _ _ _ _ _ _ _ _ _ _ _ _ _ _ hI' hy) 8 0 (by omega)
theorem rq_total_l (hR : R ≤ 1000)
    (H : ∀ (fr' fl' tp' : Int32) (a7' a8' a9' a10' a11' a13' a14' a15' a16' a17' a18' a19' : Nat → Int32), rq_Inv R Q d i n op rv sc a1 a2 a3 a5 a6 a7' a8' a9' a10' a12 a13' a14' a15' → post (rq_sum Q (rq_x d n op (a5 i)) 8) (h, rv, sc, fr', tp', fl', a1, a2, a3, a4, a5, a6, a7', a8', a9', a10', a11', a12, a13', a14', a15', a16', a17', a18', a19', a20, a21)) :
    ∀ (e k : Nat), k + e = 8 → ∀ (fr fl tp : Int32) (a7 a8 a9 a10 a11 a13 a14 a15 a16 a17 a18 a19 : Nat → Int32), rq_Inv R Q d i n op rv sc a1 a2 a3 a5 a6 a7 a8 a9 a10 a12 a13 a14 a15 → wX_total_4 post (e + 1) (rq_sum Q (rq_x d n op (a5 i)) k) (nI k) h rv sc fr tp fl a1 a2 a3 a4 a5 a6 a7 a8 a9 a10 a11 a12 a13 a14 a15 a16 a17 a18 a19 a20 a21 := by
  intro e
  induction e with
  | zero =>
    intro k hk fr fl tp a7 a8 a9 a10 a11 a13 a14 a15 a16 a17 a18 a19 hI
    have e : k = 8 := by omega
    subst e
    exact br_t (by decide) (H _ _ _ _ _ _ _ _ _ _ _ _ _ _ _ hI)
  | succ e ih =>
    intro k hk fr fl tp a7 a8 a9 a10 a11 a13 a14 a15 a16 a17 a18 a19 hI
    refine pk_le 8 k (fun c => absurd c (by omega)) (fun _ => rq_ens (show k < 8 by omega) hR hI (fun tp' a7' a8' a9' a10' a11' a13' a14' a15' a16' a17' a18' a19' hI' h9 _ _ => br_f (by decide) ⟨pk_in k 8 (by omega), ?_⟩))
    rw [nI_clamp (show k < 2 ^ 31 by omega), h9, rq_sum_s]
    exact nm_e (nm_r (nI_1 k) (ih (k + 1) (by omega) _ _ _ _ _ _ _ _ _ _ _ _ _ _ _ hI'))
theorem rq_total (hR : R ≤ 1000) (hI : rq_Inv R Q d i n op rv sc a1 a2 a3 a5 a6 a7 a8 a9 a10 a12 a13 a14 a15)
    (H : ∀ (fr' fl' tp' : Int32) (a7' a8' a9' a10' a11' a13' a14' a15' a16' a17' a18' a19' : Nat → Int32), rq_Inv R Q d i n op rv sc a1 a2 a3 a5 a6 a7' a8' a9' a10' a12 a13' a14' a15' → post (rq_sum Q (rq_x d n op (a5 i)) 8) (h, rv, sc, fr', tp', fl', a1, a2, a3, a4, a5, a6, a7', a8', a9', a10', a11', a12, a13', a14', a15', a16', a17', a18', a19', a20, a21)) :
    wpX_total post (h, rv, sc, fr, tp, fl, a1, a2, a3, a4, a5, a6, a7, a8, a9, a10, a11, a12, a13, a14, a15, a16, a17, a18, a19, a20, a21) := by
  unfold wpX_total
  dsimp only
  have e : rq_sum Q (rq_x d n op (a5 i)) 0 = 0 := if_neg (by omega)
  have t := rq_total_l (post := post) (h := h) (a4 := a4) (a20 := a20) (a21 := a21) hR H 8 0 (by omega) fr fl tp a7 a8 a9 a10 a11 a13 a14 a15 a16 a17 a18 a19 hI
  rw [e] at t
  exact Exists.intro 9 t
theorem rq_stirredB (hx : x < 0 ∨ 5 < x) (H : post (-1) (h, rv, sc, fr, tp, fl, a1, a2, a3, a4, a5, a6, a7, a8, a9, a10, a11, a12, a13, a14, a15, a16, a17, a18, a19, a20, a21)) : wpX_stirred post (h, rv, sc, fr, tp, fl, a1, a2, a3, a4, a5, a6, a7, a8, a9, a10, a11, a12, a13, a14, a15, a16, a17, a18, a19, a20, a21) x y := by
  unfold wpX_stirred
  dsimp only
  exact br_c (fun _ => H) (fun c => br_f (rq_out (a := 5) (b := 6) (by decide) hx c) H)
/-- the second row of stirred: the values now against the values kept -/
theorem rq_st81 {v0 x3 : Int32} (hR : R ≤ 999) (hk20 : ∀ j, j < 8 → a20 j = rq_cv Q v0 j) (hk21 : ∀ j, j < 8 → a21 j = 0)
    (H : ∀ (rv' sc' fr' fl' tp' : Int32) (a5' a6' a7' a8' a9' a10' a11' a13' a14' a15' a16' a17' a18' a19' : Nat → Int32), post (rq_cnt Q v0 (rq_x d n op (a5 i)) 8) (h, rv', sc', fr', tp', fl', a1, a2, a3, a4, a5', a6', a7', a8', a9', a10', a11', a12, a13', a14', a15', a16', a17', a18', a19', a20, a21)) :
    ∀ (e k : Nat), k + e = 8 → ∀ (fr fl tp : Int32) (a7 a8 a9 a10 a11 a13 a14 a15 a16 a17 a18 a19 : Nat → Int32), rq_Inv R Q d i n op rv sc a1 a2 a3 a5 a6 a7 a8 a9 a10 a12 a13 a14 a15 → wX_stirred_81 post (nI i) x3 (e + 1) (rq_cnt Q v0 (rq_x d n op (a5 i)) k) (nI k) h rv sc fr tp fl a1 a2 a3 a4 a5 a6 a7 a8 a9 a10 a11 a12 a13 a14 a15 a16 a17 a18 a19 a20 a21 := by
  intro e
  induction e with
  | zero =>
    intro k hk fr fl tp a7 a8 a9 a10 a11 a13 a14 a15 a16 a17 a18 a19 hI
    have e : k = 8 := by omega
    subst e
    exact br_t (by decide) (rq_set (by omega) hI (fun r rv' sc' a5' a6' _ _ => H _ _ _ _ _ _ _ _ _ _ _ _ _ _ _ _ _ _ _))
  | succ e ih =>
    intro k hk fr fl tp a7 a8 a9 a10 a11 a13 a14 a15 a16 a17 a18 a19 hI
    refine pk_le 8 k (fun c => absurd c (by omega)) (fun _ => rq_ens (show k < 8 by omega) (by omega) hI (fun tp' a7' a8' a9' a10' a11' a13' a14' a15' a16' a17' a18' a19' hI' h9 _ _ => ⟨pk_in k 8 (by omega), ?_⟩))
    rw [nI_clamp (show k < 2 ^ 31 by omega), h9, hk21 k (by omega), hk20 k (by omega)]
    have t := ih (k + 1) (by omega) 0 0 tp' a7' a8' a9' a10' a11' a13' a14' a15' a16' a17' a18' a19' hI'
    refine br_f (by decide) (br_f (by decide) ⟨pk_in k 8 (by omega), pk_in k 8 (by omega), br_c (fun c => nm_r (nI_1 k) ?_) (fun c => nm_r (rq_cnt_ne c) (nm_r (nI_1 k) t))⟩)
    rw [rq_cnt_eq c]
    exact t
/-- the first row of stirred: the values are kept; then the input is set -/
theorem rq_st14 {w : Int32} (hR : R ≤ 998)
    (H : ∀ (rv' sc' fr' fl' tp' : Int32) (a5' a6' a20' a21' a7' a8' a9' a10' a11' a13' a14' a15' a16' a17' a18' a19' : Nat → Int32), post (rq_cnt Q (rq_x d n op (a5 i)) (rq_x d n op w) 8) (h, rv', sc', fr', tp', fl', a1, a2, a3, a4, a5', a6', a7', a8', a9', a10', a11', a12, a13', a14', a15', a16', a17', a18', a19', a20', a21')) :
    ∀ (e k : Nat), k + e = 8 → ∀ (fr fl tp : Int32) (a20 a21 a7 a8 a9 a10 a11 a13 a14 a15 a16 a17 a18 a19 : Nat → Int32), rq_Inv R Q d i n op rv sc a1 a2 a3 a5 a6 a7 a8 a9 a10 a12 a13 a14 a15 → (∀ j, j < k → a20 j = rq_cv Q (rq_x d n op (a5 i)) j) → (∀ j, j < k → a21 j = 0) →
      wX_stirred_14 post (nI i) w (e + 1) (nI k) h rv sc fr tp fl a1 a2 a3 a4 a5 a6 a7 a8 a9 a10 a11 a12 a13 a14 a15 a16 a17 a18 a19 a20 a21 := by
  intro e
  induction e with
  | zero =>
    intro k hk fr fl tp a20 a21 a7 a8 a9 a10 a11 a13 a14 a15 a16 a17 a18 a19 hI k20 k21
    have e : k = 8 := by omega
    subst e
    have hi := hI.1
    refine br_t (by decide) ⟨pk_in i 6 hi, nm_e (rq_set (by omega) hI (fun r rv' sc' a5' a6' hI' e5 => Exists.intro 9 ?_))⟩
    have e0 : rq_cnt Q (rq_x d n op (a5 i)) (rq_x d n op (a5' i)) 0 = 0 := if_neg (by omega)
    have HH : ∀ (rv' sc' fr' fl' tp' : Int32) (a5' a6' a7' a8' a9' a10' a11' a13' a14' a15' a16' a17' a18' a19' : Nat → Int32), post (rq_cnt Q (rq_x d n op (a5 i)) (rq_x d n op w) 8) (h, rv', sc', fr', tp', fl', a1, a2, a3, a4, a5', a6', a7', a8', a9', a10', a11', a12, a13', a14', a15', a16', a17', a18', a19', a20, a21) := fun rv' sc' fr' fl' tp' a5' a6' a7' a8' a9' a10' a11' a13' a14' a15' a16' a17' a18' a19' => H _ _ _ _ _ _ _ _ _ _ _ _ _ _ _ _ _ _ _ _ _
    rw [← e5] at HH
    have t := rq_st81 (post := post) (h := h) (a4 := a4) (a1 := a1) (v0 := rq_x d n op (a5 i)) (x3 := a5 (nI i).toNatClampNeg) (R := R + 1) (by omega) k20 k21 HH 8 0 (by omega) fr fl tp a7 a8 a9 a10 a11 a13 a14 a15 a16 a17 a18 a19 hI'
    rw [e0] at t
    exact t
  | succ e ih =>
    intro k hk fr fl tp a20 a21 a7 a8 a9 a10 a11 a13 a14 a15 a16 a17 a18 a19 hI k20 k21
    refine pk_le 8 k (fun c => absurd c (by omega)) (fun _ => rq_ens (show k < 8 by omega) (by omega) hI (fun tp' a7' a8' a9' a10' a11' a13' a14' a15' a16' a17' a18' a19' hI' h9 _ _ => br_f (by decide) ?_))
    unfold wX_stirred_42
    rw [nI_clamp (show k < 2 ^ 31 by omega), h9]
    refine ⟨pk_in k 8 (by omega), nm_e ⟨pk_in k 8 (by omega), pk_in k 8 (by omega), nm_e (nm_r (nI_1 k) (ih (k + 1) (by omega) _ _ _ _ _ _ _ _ _ _ _ _ _ _ _ _ _ hI' (fun j hj => ?_) (fun j hj => ?_)))⟩⟩
    · by_cases c : j = k
      · rw [c, pk_us]
      · rw [pk_un c]; exact k20 j (by omega)
    · by_cases c : j = k
      · rw [c, pk_us]; rfl
      · rw [pk_un c]; exact k21 j (by omega)
theorem rq_stirred {w : Int32} (hR : R ≤ 998) (hI : rq_Inv R Q d i n op rv sc a1 a2 a3 a5 a6 a7 a8 a9 a10 a12 a13 a14 a15)
    (H : ∀ (rv' sc' fr' fl' tp' : Int32) (a5' a6' a20' a21' a7' a8' a9' a10' a11' a13' a14' a15' a16' a17' a18' a19' : Nat → Int32), post (rq_cnt Q (rq_x d n op (a5 i)) (rq_x d n op w) 8) (h, rv', sc', fr', tp', fl', a1, a2, a3, a4, a5', a6', a7', a8', a9', a10', a11', a12, a13', a14', a15', a16', a17', a18', a19', a20', a21')) : wpX_stirred post (h, rv, sc, fr, tp, fl, a1, a2, a3, a4, a5, a6, a7, a8, a9, a10, a11, a12, a13, a14, a15, a16, a17, a18, a19, a20, a21) (nI i) w := by
  have hi := hI.1
  unfold wpX_stirred
  dsimp only
  exact br_f (nI_pos (by omega)) (br_t (nI_lt (b := 6) hi (by omega)) (Exists.intro 9 (rq_st14 hR H 8 0 (by omega) fr fl tp a20 a21 a7 a8 a9 a10 a11 a13 a14 a15 a16 a17 a18 a19 hI (fun j hj => absurd hj (by omega)) (fun j hj => absurd hj (by omega)))))
end
end
section
/-! the first states of the law -/
theorem rq_and7 : ∀ i, i < 6 → nI i &&& 7 = nI i := by decide +kernel
section
variable {h rv sc fr tp fl : Int32} {a1 a2 a3 a4 a5 a6 a7 a8 a9 a10 a11 a12 a13 a14 a15 a16 a17 a18 a19 a20 a21 : Nat → Int32} {R Q i m : Nat} {d : Bool} {n op x y z : Int32}
theorem rq_Inv0 (hi : i < 6) (h1 : ∀ j, j < 8 → a1 j = nI 1) : rq_Inv 1 8 false i n op 1 0 a1 (fun _ => 0) (fun _ => 0) (fun _ => 0) (fun _ => 0) (fun _ => 0) a8 (fun _ => 0) (fun _ => 0) (fun _ => 0) (fun _ => 0) (fun _ => 0) (fun _ => 0) :=
  ⟨hi, ⟨1, 0, 0, rfl, by omega, by omega, rfl, by omega, rfl, by omega, by omega⟩, fun _ _ => rfl, fun k hk => ⟨fun D => absurd D.2 (by decide), fun _ => ⟨h1 k hk, rfl, by rw [rq_c, if_neg (by omega)]⟩⟩, fun k hk c7 => absurd rfl c7⟩
theorem rq_InvA (hI : rq_Inv R Q d i n op rv sc a1 a2 a3 a5 a6 a7 a8 a9 a10 a12 a13 a14 a15) : rq_Inv R Q d i n op rv sc (upd a1 8 x) (upd a2 (80 + m) y) (upd a3 (80 + m) z) a5 a6 a7 a8 a9 a10 a12 a13 a14 a15 := by
  obtain ⟨hi, hclk, h12, hb, ho⟩ := hI
  refine ⟨hi, hclk, h12, fun k hk => ?_, ho⟩
  have b := hb k hk
  unfold rq_bd at b ⊢
  rw [pk_un (show k ≠ 8 by omega), pk_un (show k * 10 ≠ 80 + m by omega), pk_un (show k * 10 + 1 ≠ 80 + m by omega), pk_un (show k * 10 + 2 ≠ 80 + m by omega), pk_un (show k * 10 ≠ 80 + m by omega), pk_un (show k * 10 + 1 ≠ 80 + m by omega), pk_un (show k * 10 + 2 ≠ 80 + m by omega)]
  exact b
end
theorem rq_bd3 {a1 : Nat → Int32} {i : Nat} {n op x y : Int32} : rq_bd (true = true) i n op n 8 (upd (upd (upd a1 8 x) 8 y) 8 (nI (2 + 1))) (upd (upd (upd (fun _ => 0) (80 + 0) 1) (80 + 1) 0) (80 + 2) 4) (upd (upd (upd (fun _ => 0) (80 + 0) (nI i)) (80 + 1) n) (80 + 2) op) :=
  ⟨fun _ => ⟨pk_us, by simp [upd], by simp [upd], by simp [upd], by simp [upd], by simp [upd], by simp [upd]⟩, fun z => absurd rfl z⟩
theorem rq_bd1 {a1 : Nat → Int32} {i : Nat} {n op : Int32} : rq_bd (false = true) i n op n 8 (upd a1 8 (nI (0 + 1))) (upd (fun _ => 0) (80 + 0) 0) (upd (fun _ => 0) (80 + 0) n) :=
  ⟨fun z => absurd z (by decide), fun _ => ⟨pk_us, by simp [upd], by simp [upd]⟩⟩
theorem rq_cell {pb : Int32 → Prop} {L : Nat} {xs : Nat → Int32} (p : Nat) (hp : p < 6) (hL : L ≤ 6) (H : ∀ y, pb y) : wpL_cellAt pb L xs () (nI p) :=
  pk_le L p (fun _ => H _) (fun c => ⟨pk_in p L c, H _⟩)
end
section
/-! the eight cases -/
theorem rq_kiii {post : Int32 → St0 → Prop} (hp : post 1 ()) {i q : Nat} {n op v w : Int32} (hi : i < 6) (ho : ¬ op < 0) (ho3 : ¬ 3 < op) (hq : q < 8) : wpL_lawOf post 100 2000 () (nI i) n op (nI q) v w := by
  unfold wpL_lawOf
  refine ⟨by omega, by omega, 50, 1000, by omega, by omega, rq_init (by omega) (by omega) (fun a1 a8 h1 h8 => ?_)⟩
  refine rq_set (R := 1) (Q := 8) (d := false) (i := i) (n := n) (op := op) (by omega) (rq_Inv0 hi h1) (fun r rv sc a5 a6 hI e5 => ?_)
  refine rq_input (m := 0) hi h8 (by omega) (fun a4 => ?_)
  refine rq_num (m := 1) pk_us (by omega) (fun a4 => ?_)
  refine rq_apply (m := 2) ho ho3 pk_us (by omega) (by decide) (fun a4 => ?_)
  refine rq_finish (R := 2) (d := true) (i := i) (n := n) (op := op) (by omega) hq (by decide) (fun _ _ => rfl) (rq_InvA (rq_InvA (rq_InvA hI))) rq_bd3 (fun rv sc a1 a2 a3 a4 a8 hI e1 => ?_)
  refine rq_value (R := 3) (Q := q) (d := true) (i := i) (n := n) (op := op) hq (by omega) hI (fun fr fl tp a7 a8 a9 a10 a11 a13 a14 a15 a16 a17 a18 a19 hI => ?_)
  refine rq_needs (R := 3) (Q := q) (d := true) (i := i) (n := n) (op := op) hq (by omega) hI (fun nd fr fl tp a7 a8 a9 a10 a11 a13 a14 a15 a16 a17 a18 a19 hI hn => ?_)
  refine rq_total (R := 3) (Q := q) (d := true) (i := i) (n := n) (op := op) (by omega) hI (fun fr fl tp a7 a8 a9 a10 a11 a13 a14 a15 a16 a17 a18 a19 hI => ?_)
  refine rq_stirred (R := 3) (Q := q) (d := true) (i := i) (n := n) (op := op) (by omega) hI (fun rv2 sc2 fr fl tp a52 a62 a20 a21 a7 a8 a9 a10 a11 a13 a14 a15 a16 a17 a18 a19 => ?_)
  unfold wpX_drafted
  dsimp only
  refine rq_tail (bi := 1) (bq := 1) (bo := 1) (Or.inl ⟨rfl, nI_pos (by omega), nI_nlt (a := 5) (b := i) (by omega) (by omega)⟩) (Or.inl ⟨rfl, nI_pos (by omega), nI_nlt (a := 7) (b := q) (by omega) (by omega)⟩) (Or.inl ⟨rfl, ho, ho3⟩) hp 1 1 (rq_cb op v n) (by decide) (by decide) (by simp [rq_due]) (by decide) (by decide) (by decide) (by decide) ?_ ?_ ?_ ?_ ?_
  · simp [rq_cv, rq_x, e5]
  · rw [hn.1 ⟨rfl, rfl⟩, rq_need, if_neg (by decide), if_neg (by decide), rq_and7 i hi]
  · rw [rq_sum, if_pos hq, rq_tot, if_neg (by decide)]
    simp [rq_x, e5]
  · rw [rq_cnt, if_pos hq, rq_stir, if_neg (show ¬ (1 : Int32) = 0 by decide), if_neg (show ¬ (1 : Int32) = 0 by decide), rq_x, rq_x, if_pos rfl, if_pos rfl, e5]
  · rw [e1]; decide
theorem rq_kiio {post : Int32 → St0 → Prop} (hp : post 1 ()) {i : Nat} {n op v w y : Int32} (hi : i < 6) (ho : ¬ op < 0) (ho3 : ¬ 3 < op) (hy : y < 0 ∨ 7 < y) : wpL_lawOf post 100 2000 () (nI i) n op (y) v w := by
  unfold wpL_lawOf
  refine ⟨by omega, by omega, 50, 1000, by omega, by omega, rq_init (by omega) (by omega) (fun a1 a8 h1 h8 => ?_)⟩
  refine rq_set (R := 1) (Q := 8) (d := false) (i := i) (n := n) (op := op) (by omega) (rq_Inv0 hi h1) (fun r rv sc a5 a6 hI e5 => ?_)
  refine rq_input (m := 0) hi h8 (by omega) (fun a4 => ?_)
  refine rq_num (m := 1) pk_us (by omega) (fun a4 => ?_)
  refine rq_apply (m := 2) ho ho3 pk_us (by omega) (by decide) (fun a4 => ?_)
  refine rq_finishB hy ?_
  refine rq_valueB hy ?_
  refine rq_needsB hy ?_
  refine rq_total (R := 2) (Q := 8) (d := false) (i := i) (n := n) (op := op) (by omega) (rq_InvA (rq_InvA (rq_InvA hI))) (fun fr fl tp a7 a8 a9 a10 a11 a13 a14 a15 a16 a17 a18 a19 hI => ?_)
  refine rq_stirred (R := 2) (Q := 8) (d := false) (i := i) (n := n) (op := op) (by omega) hI (fun rv2 sc2 fr fl tp a52 a62 a20 a21 a7 a8 a9 a10 a11 a13 a14 a15 a16 a17 a18 a19 => ?_)
  unfold wpX_drafted
  dsimp only
  refine rq_tail (bi := 1) (bq := 0) (bo := 1) (Or.inl ⟨rfl, nI_pos (by omega), nI_nlt (a := 5) (b := i) (by omega) (by omega)⟩) (Or.inr ⟨rfl, hy⟩) (Or.inl ⟨rfl, ho, ho3⟩) hp 0 0 0 (by decide) (by decide) (by simp [rq_due]) (by decide) (by decide) (by decide) (by decide) ?_ ?_ ?_ ?_ ?_
  · rfl
  · rw [rq_need, if_pos rfl]
  · rw [rq_sum, if_neg (by omega), rq_tot, if_pos rfl]
  · rw [rq_cnt, if_neg (by omega), rq_stir, if_neg (by decide), if_pos rfl]
  · rw [pk_us]; decide
theorem rq_kioi {post : Int32 → St0 → Prop} (hp : post 1 ()) {i q : Nat} {n op v w : Int32} (hi : i < 6) (ho : op < 0 ∨ 3 < op) (hq : q < 8) : wpL_lawOf post 100 2000 () (nI i) n op (nI q) v w := by
  unfold wpL_lawOf
  refine ⟨by omega, by omega, 50, 1000, by omega, by omega, rq_init (by omega) (by omega) (fun a1 a8 h1 h8 => ?_)⟩
  refine rq_set (R := 1) (Q := 8) (d := false) (i := i) (n := n) (op := op) (by omega) (rq_Inv0 hi h1) (fun r rv sc a5 a6 hI e5 => ?_)
  refine rq_input (m := 0) hi h8 (by omega) (fun a4 => ?_)
  refine rq_num (m := 1) pk_us (by omega) (fun a4 => ?_)
  refine rq_applyB ho ?_
  refine rq_finishH hq (by decide) ?_
  refine rq_value (R := 2) (Q := 8) (d := false) (i := i) (n := n) (op := op) hq (by omega) (rq_InvA (rq_InvA hI)) (fun fr fl tp a7 a8 a9 a10 a11 a13 a14 a15 a16 a17 a18 a19 hI => ?_)
  refine rq_needs (R := 2) (Q := 8) (d := false) (i := i) (n := n) (op := op) hq (by omega) hI (fun nd fr fl tp a7 a8 a9 a10 a11 a13 a14 a15 a16 a17 a18 a19 hI hn => ?_)
  refine rq_total (R := 2) (Q := 8) (d := false) (i := i) (n := n) (op := op) (by omega) hI (fun fr fl tp a7 a8 a9 a10 a11 a13 a14 a15 a16 a17 a18 a19 hI => ?_)
  refine rq_stirred (R := 2) (Q := 8) (d := false) (i := i) (n := n) (op := op) (by omega) hI (fun rv2 sc2 fr fl tp a52 a62 a20 a21 a7 a8 a9 a10 a11 a13 a14 a15 a16 a17 a18 a19 => ?_)
  unfold wpX_drafted
  dsimp only
  refine rq_tail (bi := 1) (bq := 1) (bo := 0) (Or.inl ⟨rfl, nI_pos (by omega), nI_nlt (a := 5) (b := i) (by omega) (by omega)⟩) (Or.inl ⟨rfl, nI_pos (by omega), nI_nlt (a := 7) (b := q) (by omega) (by omega)⟩) (Or.inr ⟨rfl, ho⟩) hp 0 0 0 (by decide) (by decide) (by simp [rq_due]) (by decide) (by decide) (by decide) (by decide) ?_ ?_ ?_ ?_ ?_
  · rw [rq_cv, if_neg (by omega)]
  · rw [hn.2 (fun z => absurd z.2 (by decide)), rq_need, if_neg (by decide), if_pos rfl]
  · rw [rq_sum, if_neg (by omega), rq_tot, if_pos rfl]
  · rw [rq_cnt, if_neg (by omega), rq_stir, if_neg (by decide), if_pos rfl]
  · rw [pk_us]; decide
theorem rq_kioo {post : Int32 → St0 → Prop} (hp : post 1 ()) {i : Nat} {n op v w y : Int32} (hi : i < 6) (ho : op < 0 ∨ 3 < op) (hy : y < 0 ∨ 7 < y) : wpL_lawOf post 100 2000 () (nI i) n op (y) v w := by
  unfold wpL_lawOf
  refine ⟨by omega, by omega, 50, 1000, by omega, by omega, rq_init (by omega) (by omega) (fun a1 a8 h1 h8 => ?_)⟩
  refine rq_set (R := 1) (Q := 8) (d := false) (i := i) (n := n) (op := op) (by omega) (rq_Inv0 hi h1) (fun r rv sc a5 a6 hI e5 => ?_)
  refine rq_input (m := 0) hi h8 (by omega) (fun a4 => ?_)
  refine rq_num (m := 1) pk_us (by omega) (fun a4 => ?_)
  refine rq_applyB ho ?_
  refine rq_finishB hy ?_
  refine rq_valueB hy ?_
  refine rq_needsB hy ?_
  refine rq_total (R := 2) (Q := 8) (d := false) (i := i) (n := n) (op := op) (by omega) (rq_InvA (rq_InvA hI)) (fun fr fl tp a7 a8 a9 a10 a11 a13 a14 a15 a16 a17 a18 a19 hI => ?_)
  refine rq_stirred (R := 2) (Q := 8) (d := false) (i := i) (n := n) (op := op) (by omega) hI (fun rv2 sc2 fr fl tp a52 a62 a20 a21 a7 a8 a9 a10 a11 a13 a14 a15 a16 a17 a18 a19 => ?_)
  unfold wpX_drafted
  dsimp only
  refine rq_tail (bi := 1) (bq := 0) (bo := 0) (Or.inl ⟨rfl, nI_pos (by omega), nI_nlt (a := 5) (b := i) (by omega) (by omega)⟩) (Or.inr ⟨rfl, hy⟩) (Or.inr ⟨rfl, ho⟩) hp 0 0 0 (by decide) (by decide) (by simp [rq_due]) (by decide) (by decide) (by decide) (by decide) ?_ ?_ ?_ ?_ ?_
  · rfl
  · rw [rq_need, if_pos rfl]
  · rw [rq_sum, if_neg (by omega), rq_tot, if_pos rfl]
  · rw [rq_cnt, if_neg (by omega), rq_stir, if_neg (by decide), if_pos rfl]
  · rw [pk_us]; decide
theorem rq_koii {post : Int32 → St0 → Prop} (hp : post 1 ()) {q : Nat} {n op v w x : Int32} (hx : x < 0 ∨ 5 < x) (ho : ¬ op < 0) (ho3 : ¬ 3 < op) (hq : q < 8) : wpL_lawOf post 100 2000 () (x) n op (nI q) v w := by
  unfold wpL_lawOf
  refine ⟨by omega, by omega, 50, 1000, by omega, by omega, rq_init (by omega) (by omega) (fun a1 a8 h1 h8 => ?_)⟩
  have hI := rq_Inv0 (i := 0) (n := n) (op := op) (a8 := a8) (by omega) h1
  refine rq_setB hx ?_
  refine rq_inputB hx ?_
  refine rq_num (m := 0) h8 (by omega) (fun a4 => ?_)
  refine rq_applyL ho ho3 (m := 1) pk_us (by omega) (by decide) ?_
  refine rq_finish (R := 1) (d := false) (i := 0) (n := n) (op := op) (by omega) hq (by decide) (fun _ _ => rfl) (rq_InvA hI) rq_bd1 (fun rv sc a1 a2 a3 a4 a8 hI e1 => ?_)
  refine rq_value (R := 2) (Q := q) (d := false) (i := 0) (n := n) (op := op) hq (by omega) hI (fun fr fl tp a7 a8 a9 a10 a11 a13 a14 a15 a16 a17 a18 a19 hI => ?_)
  refine rq_needs (R := 2) (Q := q) (d := false) (i := 0) (n := n) (op := op) hq (by omega) hI (fun nd fr fl tp a7 a8 a9 a10 a11 a13 a14 a15 a16 a17 a18 a19 hI hn => ?_)
  refine rq_total (R := 2) (Q := q) (d := false) (i := 0) (n := n) (op := op) (by omega) hI (fun fr fl tp a7 a8 a9 a10 a11 a13 a14 a15 a16 a17 a18 a19 hI => ?_)
  refine rq_stirredB hx ?_
  unfold wpX_drafted
  dsimp only
  refine rq_tail (bi := 0) (bq := 1) (bo := 1) (Or.inr ⟨rfl, hx⟩) (Or.inl ⟨rfl, nI_pos (by omega), nI_nlt (a := 7) (b := q) (by omega) (by omega)⟩) (Or.inl ⟨rfl, ho, ho3⟩) hp 1 0 n (by decide) (by decide) (by simp [rq_due]) (by decide) (by decide) (by decide) (by decide) ?_ ?_ ?_ ?_ ?_
  · simp [rq_cv, rq_x]
  · rw [hn.2 (fun z => absurd z.2 (by decide)), rq_need, if_neg (by decide), if_pos rfl]
  · rw [rq_sum, if_pos hq, rq_tot, if_neg (by decide)]
    simp [rq_x]
  · rw [rq_stir, if_pos rfl]
  · rw [e1]; decide
theorem rq_koio {post : Int32 → St0 → Prop} (hp : post 1 ()) {n op v w x y : Int32} (hx : x < 0 ∨ 5 < x) (ho : ¬ op < 0) (ho3 : ¬ 3 < op) (hy : y < 0 ∨ 7 < y) : wpL_lawOf post 100 2000 () (x) n op (y) v w := by
  unfold wpL_lawOf
  refine ⟨by omega, by omega, 50, 1000, by omega, by omega, rq_init (by omega) (by omega) (fun a1 a8 h1 h8 => ?_)⟩
  have hI := rq_Inv0 (i := 0) (n := n) (op := op) (a8 := a8) (by omega) h1
  refine rq_setB hx ?_
  refine rq_inputB hx ?_
  refine rq_num (m := 0) h8 (by omega) (fun a4 => ?_)
  refine rq_applyL ho ho3 (m := 1) pk_us (by omega) (by decide) ?_
  refine rq_finishB hy ?_
  refine rq_valueB hy ?_
  refine rq_needsB hy ?_
  refine rq_total (R := 1) (Q := 8) (d := false) (i := 0) (n := n) (op := op) (by omega) (rq_InvA hI) (fun fr fl tp a7 a8 a9 a10 a11 a13 a14 a15 a16 a17 a18 a19 hI => ?_)
  refine rq_stirredB hx ?_
  unfold wpX_drafted
  dsimp only
  refine rq_tail (bi := 0) (bq := 0) (bo := 1) (Or.inr ⟨rfl, hx⟩) (Or.inr ⟨rfl, hy⟩) (Or.inl ⟨rfl, ho, ho3⟩) hp 0 0 0 (by decide) (by decide) (by simp [rq_due]) (by decide) (by decide) (by decide) (by decide) ?_ ?_ ?_ ?_ ?_
  · rfl
  · rw [rq_need, if_pos rfl]
  · rw [rq_sum, if_neg (by omega), rq_tot, if_pos rfl]
  · rw [rq_stir, if_pos rfl]
  · rw [pk_us]; decide
theorem rq_kooi {post : Int32 → St0 → Prop} (hp : post 1 ()) {q : Nat} {n op v w x : Int32} (hx : x < 0 ∨ 5 < x) (ho : op < 0 ∨ 3 < op) (hq : q < 8) : wpL_lawOf post 100 2000 () (x) n op (nI q) v w := by
  unfold wpL_lawOf
  refine ⟨by omega, by omega, 50, 1000, by omega, by omega, rq_init (by omega) (by omega) (fun a1 a8 h1 h8 => ?_)⟩
  have hI := rq_Inv0 (i := 0) (n := n) (op := op) (a8 := a8) (by omega) h1
  refine rq_setB hx ?_
  refine rq_inputB hx ?_
  refine rq_num (m := 0) h8 (by omega) (fun a4 => ?_)
  refine rq_applyB ho ?_
  refine rq_finish (R := 1) (d := false) (i := 0) (n := n) (op := op) (by omega) hq (by decide) (fun _ _ => rfl) (rq_InvA hI) rq_bd1 (fun rv sc a1 a2 a3 a4 a8 hI e1 => ?_)
  refine rq_value (R := 2) (Q := q) (d := false) (i := 0) (n := n) (op := op) hq (by omega) hI (fun fr fl tp a7 a8 a9 a10 a11 a13 a14 a15 a16 a17 a18 a19 hI => ?_)
  refine rq_needs (R := 2) (Q := q) (d := false) (i := 0) (n := n) (op := op) hq (by omega) hI (fun nd fr fl tp a7 a8 a9 a10 a11 a13 a14 a15 a16 a17 a18 a19 hI hn => ?_)
  refine rq_total (R := 2) (Q := q) (d := false) (i := 0) (n := n) (op := op) (by omega) hI (fun fr fl tp a7 a8 a9 a10 a11 a13 a14 a15 a16 a17 a18 a19 hI => ?_)
  refine rq_stirredB hx ?_
  unfold wpX_drafted
  dsimp only
  refine rq_tail (bi := 0) (bq := 1) (bo := 0) (Or.inr ⟨rfl, hx⟩) (Or.inl ⟨rfl, nI_pos (by omega), nI_nlt (a := 7) (b := q) (by omega) (by omega)⟩) (Or.inr ⟨rfl, ho⟩) hp 1 0 n (by decide) (by decide) (by simp [rq_due]) (by decide) (by decide) (by decide) (by decide) ?_ ?_ ?_ ?_ ?_
  · simp [rq_cv, rq_x]
  · rw [hn.2 (fun z => absurd z.2 (by decide)), rq_need, if_neg (by decide), if_pos rfl]
  · rw [rq_sum, if_pos hq, rq_tot, if_neg (by decide)]
    simp [rq_x]
  · rw [rq_stir, if_pos rfl]
  · rw [e1]; decide
theorem rq_kooo {post : Int32 → St0 → Prop} (hp : post 1 ()) {n op v w x y : Int32} (hx : x < 0 ∨ 5 < x) (ho : op < 0 ∨ 3 < op) (hy : y < 0 ∨ 7 < y) : wpL_lawOf post 100 2000 () (x) n op (y) v w := by
  unfold wpL_lawOf
  refine ⟨by omega, by omega, 50, 1000, by omega, by omega, rq_init (by omega) (by omega) (fun a1 a8 h1 h8 => ?_)⟩
  have hI := rq_Inv0 (i := 0) (n := n) (op := op) (a8 := a8) (by omega) h1
  refine rq_setB hx ?_
  refine rq_inputB hx ?_
  refine rq_num (m := 0) h8 (by omega) (fun a4 => ?_)
  refine rq_applyB ho ?_
  refine rq_finishB hy ?_
  refine rq_valueB hy ?_
  refine rq_needsB hy ?_
  refine rq_total (R := 1) (Q := 8) (d := false) (i := 0) (n := n) (op := op) (by omega) (rq_InvA hI) (fun fr fl tp a7 a8 a9 a10 a11 a13 a14 a15 a16 a17 a18 a19 hI => ?_)
  refine rq_stirredB hx ?_
  unfold wpX_drafted
  dsimp only
  refine rq_tail (bi := 0) (bq := 0) (bo := 0) (Or.inr ⟨rfl, hx⟩) (Or.inr ⟨rfl, hy⟩) (Or.inr ⟨rfl, ho⟩) hp 0 0 0 (by decide) (by decide) (by simp [rq_due]) (by decide) (by decide) (by decide) (by decide) ?_ ?_ ?_ ?_ ?_
  · rfl
  · rw [rq_need, if_pos rfl]
  · rw [rq_sum, if_neg (by omega), rq_tot, if_pos rfl]
  · rw [rq_stir, if_pos rfl]
  · rw [pk_us]; decide
end
section
/-! the law -/
theorem rq_law {post : Int32 → St0 → Prop} (hp : post 1 ()) (x n op y v w : Int32) : wpL_lawOf post 100 2000 () x n op y v w := by
  by_cases ho : op < 0 ∨ 3 < op
  · by_cases hx : x < 0 ∨ 5 < x
    · by_cases hy : y < 0 ∨ 7 < y
      · exact rq_kooo hp hx ho hy
      · obtain ⟨q, hq, rfl⟩ := nI_of2 (M := 7) (n := 7) (by decide) (fun z => hy (Or.inl z)) (Int32.not_lt.mp (fun z => hy (Or.inr z)))
        exact rq_kooi hp hx ho (by omega)
    · obtain ⟨i, hi, rfl⟩ := nI_of2 (M := 5) (n := 5) (by decide) (fun z => hx (Or.inl z)) (Int32.not_lt.mp (fun z => hx (Or.inr z)))
      by_cases hy : y < 0 ∨ 7 < y
      · exact rq_kioo hp (by omega) ho hy
      · obtain ⟨q, hq, rfl⟩ := nI_of2 (M := 7) (n := 7) (by decide) (fun z => hy (Or.inl z)) (Int32.not_lt.mp (fun z => hy (Or.inr z)))
        exact rq_kioi hp (by omega) ho (by omega)
  · have ho0 : ¬ op < 0 := fun z => ho (Or.inl z)
    have ho3 : ¬ 3 < op := fun z => ho (Or.inr z)
    by_cases hx : x < 0 ∨ 5 < x
    · by_cases hy : y < 0 ∨ 7 < y
      · exact rq_koio hp hx ho0 ho3 hy
      · obtain ⟨q, hq, rfl⟩ := nI_of2 (M := 7) (n := 7) (by decide) (fun z => hy (Or.inl z)) (Int32.not_lt.mp (fun z => hy (Or.inr z)))
        exact rq_koii hp hx ho0 ho3 (by omega)
    · obtain ⟨i, hi, rfl⟩ := nI_of2 (M := 5) (n := 5) (by decide) (fun z => hx (Or.inl z)) (Int32.not_lt.mp (fun z => hx (Or.inr z)))
      by_cases hy : y < 0 ∨ 7 < y
      · exact rq_kiio hp (by omega) ho0 ho3 hy
      · obtain ⟨q, hq, rfl⟩ := nI_of2 (M := 7) (n := 7) (by decide) (fun z => hy (Or.inl z)) (Int32.not_lt.mp (fun z => hy (Or.inr z)))
        exact rq_kiii hp (by omega) ho0 ho3 (by omega)
theorem i_vc (xs : Nat → Int32) (L : Nat) (hL : L ≤ 6) : wpL_law (fun r => r = 1) L xs := by
  unfold wpL_law
  exact rq_cell 0 (by omega) hL (fun r1 => rq_cell 1 (by omega) hL (fun r2 => rq_cell 2 (by omega) hL (fun r3 => rq_cell 3 (by omega) hL (fun r4 => rq_cell 4 (by omega) hL (fun r5 => rq_cell 5 (by omega) hL (fun r6 => ⟨100, 2000, by omega, by omega, rq_law rfl r1 r2 r3 r4 r5 r6⟩))))))
end
