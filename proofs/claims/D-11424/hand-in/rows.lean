section
/-! The picture: what the methods compute, as plain functions over ints (no state of the program in sight). -/
def mv_in (i : Int32) (n : Nat) : Bool := decide (¬ (i < 0 ∨ n ≤ i.toNatClampNeg))
theorem mv_lt {i : Int32} {n : Nat} (h : mv_in i n = true) : i.toNatClampNeg < n :=
  Nat.lt_of_not_le (fun z => of_decide_eq_true h (Or.inr z))
theorem mv_up {i : Int32} {n m : Nat} (h : mv_in i n = true) (hm : n ≤ m) : vp_in i m :=
  fun z => z.elim (fun a => of_decide_eq_true h (Or.inl a)) (fun b => of_decide_eq_true h (Or.inr (Nat.le_trans hm b)))
def bo_i (b : Bool) : Int32 := if b = true then 1 else 0
/-- demand: the answer and the new chosen set -/
def md_dem (ch rf t : Int32) : Int32 × Int32 :=
  if t &&& (rf ^^^ (-1)) = 0 then (0, ch)
  else if (t &&& (rf ^^^ (-1))) &&& ch = 0 then
    (if (t &&& (rf ^^^ (-1))) &&& ((t &&& (rf ^^^ (-1))) - 1) = 0 then (1, ch ||| (t &&& (rf ^^^ (-1)))) else (1, ch))
  else (1, ch)
/-- propagatePackage's loop over the needs: answer, chosen, refused -/
def mp_need (x1 inn : Int32) (l4 l11 : Nat → Int32) : Nat → Int32 → Int32 → Int32 → Option (Int32 × Int32 × Int32)
  | 0, _, _, _ => none
  | n + 1, x3, ch, rf =>
    if l4 x1.toNatClampNeg ≤ x3 then (if ch &&& rf = 0 then some (1, ch, rf) else some (0, ch, rf))
    else if mv_in ((2 * x1) + x3) 1 = true then
      (if inn = 0 then
        (if l11 ((2 * x1) + x3).toNatClampNeg &&& (rf ^^^ (-1)) = 0 then mp_need x1 inn l4 l11 n (x3 + 1) ch (rf ||| ((1 : Int32) <<< (x1 &&& 31)))
         else mp_need x1 inn l4 l11 n (x3 + 1) ch rf)
      else
        (match md_dem ch rf (l11 ((2 * x1) + x3).toNatClampNeg) with
         | (q, c1) => if q = 0 then some (0, c1, rf) else mp_need x1 inn l4 l11 n (x3 + 1) c1 rf))
    else none
def mp_pkg (x1 : Int32) (l4 l11 l12 : Nat → Int32) (ch rf : Int32) : Option (Int32 × Int32 × Int32) :=
  if ((ch >>> (x1 &&& 31)) &&& 1) = 0 then mp_need x1 0 l4 l11 3 0 ch rf
  else mp_need x1 1 l4 l11 3 0 ch (rf ||| l12 x1.toNatClampNeg)
/-- propagate's loop over the packages: 0 for a failure, else 1 -/
def mp_50 (pc : Int32) (c : Nat) (l4 l11 l12 : Nat → Int32) : Nat → Int32 → Int32 → Int32 → Option (Int32 × Int32 × Int32)
  | 0, _, _, _ => none
  | n + 1, x3, ch, rf =>
    if pc ≤ x3 then some (1, ch, rf)
    else if mv_in x3 c = true then
      (match mp_pkg x3 l4 l11 l12 ch rf with
       | none => none
       | some (q, c1, r1) => if q = 0 then some (0, c1, r1) else mp_50 pc c l4 l11 l12 n (x3 + 1) c1 r1)
    else none
/-- propagate's rounds -/
def mp_4 (pc : Int32) (c : Nat) (l4 l11 l12 : Nat → Int32) : Nat → Int32 → Int32 → Int32 → Int32 → Option (Int32 × Int32 × Int32)
  | 0, _, _, _, _ => none
  | n + 1, x1, x2, ch, rf =>
    if 12 ≤ x2 then some (1, ch, rf)
    else if x1 = (ch ||| (rf <<< ((10 : Int32) &&& 31))) then some (1, ch, rf)
    else if ch &&& rf = 0 then
      (match mp_50 pc c l4 l11 l12 3 0 ch rf with
       | none => none
       | some (q, c1, r1) => if q = 0 then some (0, c1, r1) else mp_4 pc c l4 l11 l12 n (ch ||| (rf <<< ((10 : Int32) &&& 31))) (x2 + 1) c1 r1)
    else some (0, ch, rf)
def mp_prop (pc : Int32) (c : Nat) (l4 l11 l12 : Nat → Int32) (ch rf : Int32) : Option (Int32 × Int32 × Int32) :=
  mp_4 pc c l4 l11 l12 13 (-1) 0 ch rf
/-- lowestCost, nothing installed -/
def mc_cnt (mv : Int32) : Nat → Int32 → Int32 → Option Int32
  | 0, _, _ => none
  | n + 1, x4, x5 => if 10 ≤ x5 then some x4 else mc_cnt mv n (x4 + ((mv >>> (x5 &&& 31)) &&& 1)) (x5 + 1)
def mc_6 (ch rf : Int32) (l13 l14 : Nat → Int32) : Nat → Int32 → Int32 → Option Int32
  | 0, _, _ => none
  | n + 1, x2, x3 =>
    if 5 ≤ x3 then some x2
    else if mv_in x3 5 = true then
      (if l13 x3.toNatClampNeg &&& ch = 0 then mc_6 ch rf l13 l14 n x2 (x3 + 1)
       else if ((rf >>> (l14 x3.toNatClampNeg &&& 31)) &&& 1) = 0 then mc_6 ch rf l13 l14 n x2 (x3 + 1)
       else mc_6 ch rf l13 l14 n (x2 + 1) (x3 + 1))
    else none
def mc_cost (l13 l14 : Nat → Int32) (ch rf : Int32) : Option Int32 :=
  match mc_6 ch rf l13 l14 6 0 0 with
  | none => none
  | some b =>
    match mc_cnt ((ch &&& ((0 : Int32) ^^^ (-1))) ||| (rf &&& 0)) 11 0 0 with
    | none => none
    | some k => some ((((0 : Int32) <<< ((8 : Int32) &&& 31)) ||| (k <<< ((4 : Int32) &&& 31))) ||| b)
/-- finish: found, bestSet, bestCost -/
def mf_fin (l13 l14 : Nat → Int32) (ch rf fd bs bc : Int32) : Option (Int32 × Int32 × Int32) :=
  match mc_cost l13 l14 ch rf with
  | none => none
  | some k =>
    if k < bc then some (fd + 1, ch, k)
    else if k = bc then (if bs ≤ ch then some (fd + 1, bs, bc) else some (fd + 1, ch, k))
    else some (fd + 1, bs, bc)
def mb_33 (op : Int32) : Nat → Int32 → Option Int32
  | 0, _ => none
  | n + 1, x3 => if 9 ≤ x3 then some x3 else if ((op >>> (x3 &&& 31)) &&& 1) = 0 then mb_33 op n (x3 + 1) else some x3
/-- chosen, refused, found, bestSet, bestCost, and the four rows of choice points -/
abbrev se_T : Type := Int32 × Int32 × Int32 × Int32 × Int32 × (Nat → Int32) × (Nat → Int32) × (Nat → Int32) × (Nat → Int32)
def mb_br (pc : Int32) (l13 l14 : Nat → Int32) (x1 : Int32) (ch rf fd bs bc : Int32) (f15 f16 f17 f18 : Nat → Int32) : Option (Int32 × se_T) :=
  if (((1 : Int32) <<< (pc &&& 31)) - 1) &&& ((ch ||| rf) ^^^ (-1)) = 0 then
    (match mf_fin l13 l14 ch rf fd bs bc with
     | none => none
     | some (fd', bs', bc') => some (x1, ch, rf, fd', bs', bc', f15, f16, f17, f18))
  else
    (match mb_33 ((((1 : Int32) <<< (pc &&& 31)) - 1) &&& ((ch ||| rf) ^^^ (-1))) 10 0 with
     | none => none
     | some p =>
       if mv_in (x1 + 1) 11 = true then
         some (x1 + 1, ch, rf, fd, bs, bc, upd f15 (x1 + 1).toNatClampNeg ch, upd f16 (x1 + 1).toNatClampNeg rf, upd f17 (x1 + 1).toNatClampNeg p.toInt8.toInt32, upd f18 (x1 + 1).toNatClampNeg 0)
       else none)
/-- one step of the search behind the choice -/
def ms_187 (pc ct : Int32) (c : Nat) (l4 l11 l12 l13 l14 : Nat → Int32) (x2 : Int32) (ch rf fd bs bc : Int32) (f15 f16 f17 f18 : Nat → Int32) : Option (Int32 × se_T) :=
  match mp_prop pc c l4 l11 l12 ch rf with
  | none => none
  | some (q, c1, r1) =>
    if q = 0 then some (x2, c1, r1, fd, bs, bc, f15, f16, f17, f18)
    else if ct = 0 then
      (match mc_cost l13 l14 c1 r1 with
       | none => none
       | some k => if bc < k then some (x2, c1, r1, fd, bs, bc, f15, f16, f17, f18) else mb_br pc l13 l14 x2 c1 r1 fd bs bc f15 f16 f17 f18)
    else mb_br pc l13 l14 x2 c1 r1 fd bs bc f15 f16 f17 f18
def ms_54 (pc ct : Int32) (c : Nat) (l4 l11 l12 l13 l14 : Nat → Int32) : Nat → Int32 → Int32 → Int32 → Int32 → Int32 → Int32 → Int32 → (Nat → Int32) → (Nat → Int32) → (Nat → Int32) → (Nat → Int32) → Option se_T
  | 0, _, _, _, _, _, _, _, _, _, _, _ => none
  | n + 1, x2, x3, ch, rf, fd, bs, bc, f15, f16, f17, f18 =>
    if 4096 ≤ x3 then some (ch, rf, fd, bs, bc, f15, f16, f17, f18)
    else if x2 < 0 then some (ch, rf, fd, bs, bc, f15, f16, f17, f18)
    else if mv_in x2 11 = true then
      (if f18 x2.toNatClampNeg = 2 then ms_54 pc ct c l4 l11 l12 l13 l14 n (x2 + (-1)) (x3 + 1) ch rf fd bs bc f15 f16 f17 f18
       else if f18 x2.toNatClampNeg = 0 then
         (match ms_187 pc ct c l4 l11 l12 l13 l14 x2 (f15 x2.toNatClampNeg) (f16 x2.toNatClampNeg ||| ((1 : Int32) <<< (f17 x2.toNatClampNeg &&& 31))) fd bs bc f15 f16 f17 (upd f18 x2.toNatClampNeg ((f18 x2.toNatClampNeg + 1).toInt8.toInt32)) with
          | none => none
          | some (d, c1, r1, fd1, bs1, bc1, g15, g16, g17, g18) => ms_54 pc ct c l4 l11 l12 l13 l14 n d (x3 + 1) c1 r1 fd1 bs1 bc1 g15 g16 g17 g18)
       else
         (match ms_187 pc ct c l4 l11 l12 l13 l14 x2 (f15 x2.toNatClampNeg ||| ((1 : Int32) <<< (f17 x2.toNatClampNeg &&& 31))) (f16 x2.toNatClampNeg) fd bs bc f15 f16 f17 (upd f18 x2.toNatClampNeg ((f18 x2.toNatClampNeg + 1).toInt8.toInt32)) with
          | none => none
          | some (d, c1, r1, fd1, bs1, bc1, g15, g16, g17, g18) => ms_54 pc ct c l4 l11 l12 l13 l14 n d (x3 + 1) c1 r1 fd1 bs1 bc1 g15 g16 g17 g18))
    else none
def ms_search (pc ct : Int32) (c : Nat) (l4 l11 l12 l13 l14 f15 f16 f17 f18 : Nat → Int32) : Option se_T :=
  match mp_prop pc c l4 l11 l12 0 0 with
  | none => none
  | some (q, c1, r1) =>
    if q = 0 then ms_54 pc ct c l4 l11 l12 l13 l14 16 (-1) 0 c1 r1 0 (-3) 4096 f15 f16 f17 f18
    else
      (match mb_br pc l13 l14 (-1) c1 r1 0 (-3) 4096 f15 f16 f17 f18 with
       | none => none
       | some (d, c2, r2, fd2, bs2, bc2, g15, g16, g17, g18) => ms_54 pc ct c l4 l11 l12 l13 l14 16 d 0 c2 r2 fd2 bs2 bc2 g15 g16 g17 g18)
/-- right: the needs of one package (true: go on), the packages, the whole -/
def mr_50 (st x2 : Int32) (l4 l11 : Nat → Int32) : Nat → Int32 → Option Bool
  | 0, _ => none
  | n + 1, x3 =>
    if l4 x2.toNatClampNeg ≤ x3 then some true
    else if mv_in ((2 * x2) + x3) 1 = true then
      (if l11 ((2 * x2) + x3).toNatClampNeg &&& st = 0 then some false else mr_50 st x2 l4 l11 n (x3 + 1))
    else none
def mr_16 (pc st : Int32) (c : Nat) (l4 l11 l12 : Nat → Int32) : Nat → Int32 → Option Int32
  | 0, _ => none
  | n + 1, x2 =>
    if pc ≤ x2 then some 1
    else if ((st >>> (x2 &&& 31)) &&& 1) = 0 then mr_16 pc st c l4 l11 l12 n (x2 + 1)
    else if mv_in x2 c = true then
      (if l12 x2.toNatClampNeg &&& st = 0 then
        (match mr_50 st x2 l4 l11 3 0 with
         | none => none
         | some true => mr_16 pc st c l4 l11 l12 n (x2 + 1)
         | some false => some 0)
       else some 0)
    else none
def mr_right (pc st : Int32) (c : Nat) (l4 l11 l12 : Nat → Int32) : Option Int32 :=
  if st < 0 then some 0 else if ((1 : Int32) <<< (pc &&& 31)) ≤ st then some 0 else mr_16 pc st c l4 l11 l12 3 0
/-- the few shapes that the law's states have: needCount, needTargets, excludes, sharers, newest -/
def cl_4 (nc : Int32) (i : Nat) : Int32 := if i = 0 then nc else 0
def cl_11 (nt : Int32) (_ : Nat) : Int32 := nt
def cl_12 (e : Bool) (i : Nat) : Int32 := if e = true then (if i = 0 then 2 else 1) else 0
def cl_13 (c k : Nat) (i : Nat) : Int32 :=
  if c = 2 then (if k = 0 then (if i = 0 then 3 else 0) else (if i = 0 then 1 else if i = k then 2 else 0)) else (if i = 0 then 1 else 0)
def cl_14 (c k : Nat) (w : Int32) (i : Nat) : Int32 := if i = 0 then w else if c = 2 then (if i = k then 1 else -1) else -1
def cl_c (sec : Bool) : Nat := if sec = true then 2 else 1
def cl_pc (sec : Bool) : Int32 := if sec = true then 2 else 1
def cl_nt (slf oth : Bool) : Int32 := (if slf = true then 1 else 0) ||| (if oth = true then 2 else 0)
def cl_e (sec : Bool) (k : Nat) (t : Bool) : Bool := sec && (decide (k = 0) || t)
def cl_r1 (frm slf : Bool) : Bool := !frm || slf
def cl_r3 (sec : Bool) (k : Nat) (frm slf oth : Bool) : Bool := (sec && !decide (k = 0)) && (!frm || slf || oth)
/-- what the law asks, over the picture -/
def ck_all (sec : Bool) (k : Nat) (w : Int32) (frm slf oth t : Bool) : Bool :=
  match mr_right (cl_pc sec) 1 (cl_c sec) (cl_4 (bo_i frm)) (cl_11 (cl_nt slf oth)) (cl_12 (cl_e sec k false)),
    mr_right (cl_pc sec) 3 (cl_c sec) (cl_4 (bo_i frm)) (cl_11 (cl_nt slf oth)) (cl_12 (cl_e sec k false)),
    ms_search (cl_pc sec) 1 (cl_c sec) (cl_4 (bo_i frm)) (cl_11 (cl_nt slf oth)) (cl_12 (cl_e sec k false)) (cl_13 (cl_c sec) k) (cl_14 (cl_c sec) k w) (fun _ => 0) (fun _ => 0) (fun _ => 0) (fun _ => 0),
    mr_right (cl_pc sec) 2 (cl_c sec) (cl_4 (bo_i frm)) (cl_11 (cl_nt slf oth)) (cl_12 (cl_e sec k t)),
    mr_right (cl_pc sec) 3 (cl_c sec) (cl_4 (bo_i frm)) (cl_11 (cl_nt slf oth)) (cl_12 (cl_e sec k t)) with
  | some r1, some r3, some (_, _, fd, _, _, f15, f16, f17, f18), some q2, some q3 =>
    decide (r1 = bo_i (cl_r1 frm slf)) && decide (r3 = bo_i (cl_r3 sec k frm slf oth)) &&
    decide (fd = ((1 + bo_i (cl_r1 frm slf)) + bo_i sec) + bo_i (cl_r3 sec k frm slf oth)) &&
    decide (q2 = bo_i sec) && decide (q3 = bo_i (cl_r3 sec k frm slf oth && !t)) &&
    (match ms_search (cl_pc sec) 0 (cl_c sec) (cl_4 (bo_i frm)) (cl_11 (cl_nt slf oth)) (cl_12 (cl_e sec k t)) (cl_13 (cl_c sec) k) (cl_14 (cl_c sec) k w) f15 f16 f17 f18 with
     | some (_, _, _, bs, _, _, _, _, _) => decide (bs = 0)
     | none => false)
  | _, _, _, _, _ => false
end
section
/-- nobody needs what isn't asked for; without a second package nothing of it -/
def ck_in (sec frm slf oth t : Bool) : Bool := (frm || (!slf && !oth)) && (sec || (!oth && !t))
set_option maxRecDepth 100000 in
theorem ck_1 : ∀ (frm slf oth t : Bool), ck_in false frm slf oth t = true → ck_all false 0 0 frm slf oth t = true := by decide +kernel
set_option maxRecDepth 100000 in
theorem ck_2 : ∀ k, k < 5 → ∀ (w frm slf oth t : Bool), ck_in true frm slf oth t = true → ck_all true k (bo_i w) frm slf oth t = true := by decide +kernel
end
section
/-! The walk of the search: each method against its picture. Nothing is installed, no wishes. -/
theorem pz_and0 (x : Int32) : x &&& 0 = 0 := Int32.and_zero
theorem pz_sh : ∀ i, i < 5 → (((0 : Int32) >>> (nI i &&& 31)) &&& 1) = 0 := by decide +kernel
theorem pz_sr (x : Int32) : (((0 : Int32) >>> (x &&& 31)) &&& 1) = 0 := by
  rw [show (0 : Int32) >>> (x &&& 31) = 0 from Int32.zero_shiftRight]; rfl
section
variable {pc rd ch rf ct fd bs bc : Int32} {a1 a2 a3 a4 a5 a6 a7 a8 a9 a10 a11 a12 a13 a14 a15 a16 a17 a18 : Nat → Int32}
theorem pd_dem {post : Int32 → St2 → Prop} {t r ch' : Int32} (h : md_dem ch rf t = (r, ch')) (hp : post r (pc, 0, 0, rd, 0, 0, ch', rf, ct, fd, bs, bc, a1, a2, a3, a4, a5, a6, a7, a8, a9, a10, a11, a12, a13, a14, a15, a16, a17, a18)) : wpX_demand post (pc, 0, 0, rd, 0, 0, ch, rf, ct, fd, bs, bc, a1, a2, a3, a4, a5, a6, a7, a8, a9, a10, a11, a12, a13, a14, a15, a16, a17, a18) t := by
  unfold wpX_demand
  dsimp only
  refine nm_e ?_
  unfold md_dem at h
  by_cases h1 : t &&& (rf ^^^ (-1)) = 0
  · rw [if_pos h1] at h
    cases h
    exact br_t h1 hp
  · rw [if_neg h1] at h
    refine br_f h1 ?_
    by_cases h2 : (t &&& (rf ^^^ (-1))) &&& ch = 0
    · rw [if_pos h2] at h
      refine br_t h2 ?_
      by_cases h3 : (t &&& (rf ^^^ (-1))) &&& ((t &&& (rf ^^^ (-1))) - 1) = 0
      · rw [if_pos h3] at h
        cases h
        exact br_t h3 (nm_e hp)
      · rw [if_neg h3] at h
        cases h
        exact br_f h3 hp
    · rw [if_neg h2] at h
      cases h
      exact br_f h2 hp
theorem pd_need {post : Int32 → St2 → Prop} {x1 inn r ch' rf' : Int32} {l4 l11 : Nat → Int32} (hv : vp_in x1 10) (h4 : a4 x1.toNatClampNeg = l4 x1.toNatClampNeg) (h11 : a11 0 = l11 0) :
    ∀ (n : Nat) (x3 ch rf : Int32), mp_need x1 inn l4 l11 n x3 ch rf = some (r, ch', rf') → post r (pc, 0, 0, rd, 0, 0, ch', rf', ct, fd, bs, bc, a1, a2, a3, a4, a5, a6, a7, a8, a9, a10, a11, a12, a13, a14, a15, a16, a17, a18) → wX_propagatePackage_38 post x1 inn n x3 pc 0 0 rd 0 0 ch rf ct fd bs bc a1 a2 a3 a4 a5 a6 a7 a8 a9 a10 a11 a12 a13 a14 a15 a16 a17 a18 := by
  intro n
  induction n with
  | zero =>
    intro x3 ch rf h
    rw [mp_need] at h
    cases h
  | succ n ih =>
    intro x3 ch rf h hp
    rw [mp_need] at h
    refine And.intro hv ?_
    by_cases c1 : l4 x1.toNatClampNeg ≤ x3
    · rw [if_pos c1] at h
      refine br_t (by rw [h4]; exact c1) ?_
      by_cases c2 : ch &&& rf = 0
      · rw [if_pos c2] at h
        cases h
        exact br_t c2 hp
      · rw [if_neg c2] at h
        cases h
        exact br_f c2 hp
    · rw [if_neg c1] at h
      by_cases c0 : mv_in ((2 * x1) + x3) 1 = true
      · rw [if_pos c0] at h
        have hz : ((2 * x1) + x3).toNatClampNeg = 0 := by have := mv_lt c0; omega
        have e11 : a11 ((2 * x1) + x3).toNatClampNeg = l11 ((2 * x1) + x3).toNatClampNeg := by rw [hz]; exact h11
        refine br_f (by rw [h4]; exact c1) (And.intro (mv_up c0 (by decide)) (nm_r e11 ?_))
        by_cases c3 : inn = 0
        · rw [if_pos c3] at h
          refine br_t c3 ?_
          by_cases c4 : l11 ((2 * x1) + x3).toNatClampNeg &&& (rf ^^^ (-1)) = 0
          · rw [if_pos c4] at h
            exact br_t c4 (nm_e (nm_e (ih _ _ _ h hp)))
          · rw [if_neg c4] at h
            exact br_f c4 (nm_e (ih _ _ _ h hp))
        · rw [if_neg c3] at h
          refine br_f c3 ?_
          rcases hd : md_dem ch rf (l11 ((2 * x1) + x3).toNatClampNeg) with ⟨q, c1⟩
          rw [hd] at h
          dsimp only at h
          refine pd_dem hd ?_
          by_cases c5 : q = 0
          · rw [if_pos c5] at h
            cases h
            exact br_t c5 hp
          · rw [if_neg c5] at h
            exact br_f c5 (nm_e (ih _ _ _ h hp))
      · rw [if_neg c0] at h
        cases h
theorem pd_pkg {post : Int32 → St2 → Prop} {x1 r ch' rf' : Int32} {l4 l11 l12 : Nat → Int32} (hv : vp_in x1 10) (h4 : a4 x1.toNatClampNeg = l4 x1.toNatClampNeg) (h11 : a11 0 = l11 0) (h12 : a12 x1.toNatClampNeg = l12 x1.toNatClampNeg)
    (h : mp_pkg x1 l4 l11 l12 ch rf = some (r, ch', rf')) (hp : post r (pc, 0, 0, rd, 0, 0, ch', rf', ct, fd, bs, bc, a1, a2, a3, a4, a5, a6, a7, a8, a9, a10, a11, a12, a13, a14, a15, a16, a17, a18)) : wpX_propagatePackage post (pc, 0, 0, rd, 0, 0, ch, rf, ct, fd, bs, bc, a1, a2, a3, a4, a5, a6, a7, a8, a9, a10, a11, a12, a13, a14, a15, a16, a17, a18) x1 := by
  unfold mp_pkg at h
  by_cases c1 : ((ch >>> (x1 &&& 31)) &&& 1) = 0
  · rw [if_pos c1] at h
    exact br_t c1 (br_t rfl ⟨3, pd_need hv h4 h11 3 _ _ _ h hp⟩)
  · rw [if_neg c1] at h
    exact br_f c1 (br_f (by decide) ⟨hv, nm_r (by rw [h12]) ⟨3, pd_need hv h4 h11 3 _ _ _ h hp⟩⟩)
theorem pd_names {post : Int32 → St2 → Prop} (h1 : ch &&& rf = 0 → post 1 (pc, 0, 0, rd, 0, 0, ch, rf, ct, fd, bs, bc, a1, a2, a3, a4, a5, a6, a7, a8, a9, a10, a11, a12, a13, a14, a15, a16, a17, a18)) (h0 : ¬ ch &&& rf = 0 → post 0 (pc, 0, 0, rd, 0, 0, ch, rf, ct, fd, bs, bc, a1, a2, a3, a4, a5, a6, a7, a8, a9, a10, a11, a12, a13, a14, a15, a16, a17, a18)) : wpX_propagateNames post (pc, 0, 0, rd, 0, 0, ch, rf, ct, fd, bs, bc, a1, a2, a3, a4, a5, a6, a7, a8, a9, a10, a11, a12, a13, a14, a15, a16, a17, a18) :=
  pk_loop (σ := Unit) (fun n i _ => wX_propagateNames_2 post n (nI i) pc 0 0 rd 0 0 ch rf ct fd bs bc a1 a2 a3 a4 a5 a6 a7 a8 a9 a10 a11 a12 a13 a14 a15 a16 a17 a18) (fun _ _ => True) 5 0 () (by omega) trivial
    (fun n _ _ => pk_le 5 5 (fun _ => br_c h1 h0) (fun z => absurd z (by omega)))
    (fun n i _ hi _ hw => pk_le 5 i (fun z => absurd z (by omega)) (fun _ => br_t (pz_sh i hi) (br_t (pz_sh i hi) (nm_r (nI_1 i) (hw () trivial)))))
theorem pd_50 {post : Int32 → St2 → Prop} {J : Int32 → Int32 → Int32 → Int32 → Int32 → Int32 → Int32 → Int32 → Int32 → Int32 → Int32 → Int32 → Int32 → Int32 → (Nat → Int32) → (Nat → Int32) → (Nat → Int32) → (Nat → Int32) → (Nat → Int32) → (Nat → Int32) → (Nat → Int32) → (Nat → Int32) → (Nat → Int32) → (Nat → Int32) → (Nat → Int32) → (Nat → Int32) → (Nat → Int32) → (Nat → Int32) → (Nat → Int32) → (Nat → Int32) → (Nat → Int32) → (Nat → Int32) → Prop} {x1 x2 r ch' rf' : Int32} {c : Nat} {l4 l11 l12 : Nat → Int32} (hc : c ≤ 10) (h4 : ∀ i, i < c → a4 i = l4 i) (h11 : a11 0 = l11 0) (h12 : ∀ i, i < c → a12 i = l12 i) :
    ∀ (n : Nat) (x3 ch rf : Int32), mp_50 pc c l4 l11 l12 n x3 ch rf = some (r, ch', rf') → (r = 0 → post 0 (pc, 0, 0, rd, 0, 0, ch', rf', ct, fd, bs, bc, a1, a2, a3, a4, a5, a6, a7, a8, a9, a10, a11, a12, a13, a14, a15, a16, a17, a18)) → (¬ r = 0 → J x1 (x2 + 1) pc 0 0 rd 0 0 ch' rf' ct fd bs bc a1 a2 a3 a4 a5 a6 a7 a8 a9 a10 a11 a12 a13 a14 a15 a16 a17 a18) → wX_propagate_50 post J x1 x2 n x3 pc 0 0 rd 0 0 ch rf ct fd bs bc a1 a2 a3 a4 a5 a6 a7 a8 a9 a10 a11 a12 a13 a14 a15 a16 a17 a18 := by
  intro n
  induction n with
  | zero =>
    intro x3 ch rf h
    rw [mp_50] at h
    cases h
  | succ n ih =>
    intro x3 ch rf h h0 hj
    rw [mp_50] at h
    by_cases c1 : pc ≤ x3
    · rw [if_pos c1] at h
      cases h
      exact br_t c1 (nm_e (hj (by decide)))
    · rw [if_neg c1] at h
      by_cases c2 : mv_in x3 c = true
      · rw [if_pos c2] at h
        refine br_f c1 ?_
        rcases hd : mp_pkg x3 l4 l11 l12 ch rf with _ | ⟨q, c1, r1⟩
        · rw [hd] at h
          cases h
        · rw [hd] at h
          dsimp only at h
          refine pd_pkg (mv_up c2 hc) (h4 _ (mv_lt c2)) h11 (h12 _ (mv_lt c2)) hd ?_
          by_cases c3 : q = 0
          · rw [if_pos c3] at h
            cases h
            exact br_t c3 (h0 rfl)
          · rw [if_neg c3] at h
            exact br_f c3 (nm_e (ih _ _ _ h h0 hj))
      · rw [if_neg c2] at h
        cases h
theorem pd_4 {post : Int32 → St2 → Prop} {r ch' rf' : Int32} {c : Nat} {l4 l11 l12 : Nat → Int32} (hc : c ≤ 10) (h4 : ∀ i, i < c → a4 i = l4 i) (h11 : a11 0 = l11 0) (h12 : ∀ i, i < c → a12 i = l12 i) (hp : post r (pc, 0, 0, rd, 0, 0, ch', rf', ct, fd, bs, bc, a1, a2, a3, a4, a5, a6, a7, a8, a9, a10, a11, a12, a13, a14, a15, a16, a17, a18)) :
    ∀ (n : Nat) (x1 x2 ch rf : Int32), mp_4 pc c l4 l11 l12 n x1 x2 ch rf = some (r, ch', rf') → wX_propagate_4 post n x1 x2 pc 0 0 rd 0 0 ch rf ct fd bs bc a1 a2 a3 a4 a5 a6 a7 a8 a9 a10 a11 a12 a13 a14 a15 a16 a17 a18 := by
  intro n
  induction n with
  | zero =>
    intro x1 x2 ch rf h
    rw [mp_4] at h
    cases h
  | succ n ih =>
    intro x1 x2 ch rf h
    rw [mp_4] at h
    by_cases c1 : 12 ≤ x2
    · rw [if_pos c1] at h
      cases h
      exact br_t c1 hp
    · rw [if_neg c1] at h
      refine br_f c1 ?_
      by_cases c2 : x1 = (ch ||| (rf <<< ((10 : Int32) &&& 31)))
      · rw [if_pos c2] at h
        cases h
        exact br_t c2 hp
      · rw [if_neg c2] at h
        refine br_f c2 (nm_e ?_)
        refine pd_names (fun c3 => ?_) (fun c3 => ?_)
        · rw [if_pos c3] at h
          refine br_f (by decide) ?_
          rcases hd : mp_50 pc c l4 l11 l12 3 0 ch rf with _ | ⟨q, c1, r1⟩
          · rw [hd] at h
            cases h
          · rw [hd] at h
            dsimp only at h
            refine ⟨3, pd_50 hc h4 h11 h12 3 _ _ _ hd (fun c4 => ?_) (fun c4 => ?_)⟩
            · rw [if_pos c4] at h
              cases h
              exact hp
            · rw [if_neg c4] at h
              exact ih _ _ _ _ h
        · rw [if_neg c3] at h
          cases h
          exact br_t rfl hp
theorem pd_prop {post : Int32 → St2 → Prop} {r ch' rf' : Int32} {c : Nat} {l4 l11 l12 : Nat → Int32} (hc : c ≤ 10) (h4 : ∀ i, i < c → a4 i = l4 i) (h11 : a11 0 = l11 0) (h12 : ∀ i, i < c → a12 i = l12 i)
    (h : mp_prop pc c l4 l11 l12 ch rf = some (r, ch', rf')) (hp : post r (pc, 0, 0, rd, 0, 0, ch', rf', ct, fd, bs, bc, a1, a2, a3, a4, a5, a6, a7, a8, a9, a10, a11, a12, a13, a14, a15, a16, a17, a18)) : wpX_propagate post (pc, 0, 0, rd, 0, 0, ch, rf, ct, fd, bs, bc, a1, a2, a3, a4, a5, a6, a7, a8, a9, a10, a11, a12, a13, a14, a15, a16, a17, a18) :=
  ⟨13, pd_4 hc h4 h11 h12 hp 13 _ _ _ _ h⟩
theorem pd_107 {post : Int32 → Prop} {x2 x3 k : Int32} (hp : post ((((0 : Int32) <<< ((8 : Int32) &&& 31)) ||| (k <<< ((4 : Int32) &&& 31))) ||| x2)) :
    ∀ (n : Nat) (x4 x5 : Int32), mc_cnt x3 n x4 x5 = some k → wX_lowestCost_107 post 0 x2 x3 pc 0 0 rd 0 0 ch rf ct fd bs bc a1 a2 a3 a4 a5 a6 a7 a8 a9 a10 a11 a12 a13 a14 a15 a16 a17 a18 n x4 x5 := by
  intro n
  induction n with
  | zero =>
    intro x4 x5 h
    rw [mc_cnt] at h
    cases h
  | succ n ih =>
    intro x4 x5 h
    rw [mc_cnt] at h
    by_cases c1 : 10 ≤ x5
    · rw [if_pos c1] at h
      cases h
      exact br_t c1 hp
    · rw [if_neg c1] at h
      exact br_f c1 (nm_e (nm_e (ih _ _ h)))
theorem pd_6 {post : Int32 → Prop} {b : Int32} {l13 l14 : Nat → Int32} (h13 : ∀ i, i < 5 → a13 i = l13 i) (h14 : ∀ i, i < 5 → a14 i = l14 i)
    (hp : ∃ fu : Nat, wX_lowestCost_107 post 0 b ((ch &&& ((0 : Int32) ^^^ (-1))) ||| (rf &&& 0)) pc 0 0 rd 0 0 ch rf ct fd bs bc a1 a2 a3 a4 a5 a6 a7 a8 a9 a10 a11 a12 a13 a14 a15 a16 a17 a18 fu 0 0) :
    ∀ (n : Nat) (x2 x3 : Int32), mc_6 ch rf l13 l14 n x2 x3 = some b → wX_lowestCost_6 post pc 0 0 rd 0 0 ch rf ct fd bs bc a1 a2 a3 a4 a5 a6 a7 a8 a9 a10 a11 a12 a13 a14 a15 a16 a17 a18 n 0 x2 x3 := by
  intro n
  induction n with
  | zero =>
    intro x2 x3 h
    rw [mc_6] at h
    cases h
  | succ n ih =>
    intro x2 x3 h
    rw [mc_6] at h
    by_cases c1 : 5 ≤ x3
    · rw [if_pos c1] at h
      cases h
      exact br_t c1 (nm_e hp)
    · rw [if_neg c1] at h
      by_cases c2 : mv_in x3 5 = true
      · rw [if_pos c2] at h
        refine br_f c1 (And.intro (mv_up c2 (by decide)) (nm_r (h13 _ (mv_lt c2)) (br_t (pz_and0 _) ?_)))
        by_cases c3 : l13 x3.toNatClampNeg &&& ch = 0
        · rw [if_pos c3] at h
          exact br_t c3 (nm_e (ih _ _ h))
        · rw [if_neg c3] at h
          refine br_f c3 (And.intro (mv_up c2 (by decide)) ?_)
          by_cases c4 : ((rf >>> (l14 x3.toNatClampNeg &&& 31)) &&& 1) = 0
          · rw [if_pos c4] at h
            exact br_t (by rw [h14 _ (mv_lt c2)]; exact c4) (nm_e (ih _ _ h))
          · rw [if_neg c4] at h
            exact br_f (by rw [h14 _ (mv_lt c2)]; exact c4) (nm_e (nm_e (ih _ _ h)))
      · rw [if_neg c2] at h
        cases h
theorem pd_cost {post : Int32 → Prop} {k : Int32} {l13 l14 : Nat → Int32} (h13 : ∀ i, i < 5 → a13 i = l13 i) (h14 : ∀ i, i < 5 → a14 i = l14 i)
    (h : mc_cost l13 l14 ch rf = some k) (hp : post k) : wpX_lowestCost post (pc, 0, 0, rd, 0, 0, ch, rf, ct, fd, bs, bc, a1, a2, a3, a4, a5, a6, a7, a8, a9, a10, a11, a12, a13, a14, a15, a16, a17, a18) := by
  unfold mc_cost at h
  rcases hd : mc_6 ch rf l13 l14 6 0 0 with _ | b
  · rw [hd] at h
    cases h
  · rw [hd] at h
    dsimp only at h
    rcases he : mc_cnt ((ch &&& ((0 : Int32) ^^^ (-1))) ||| (rf &&& 0)) 11 0 0 with _ | q
    · rw [he] at h
      cases h
    · rw [he] at h
      dsimp only at h
      cases h
      exact ⟨6, pd_6 h13 h14 ⟨11, pd_107 hp 11 _ _ he⟩ 6 _ _ hd⟩
theorem pd_fin {post : St2 → Prop} {fd' bs' bc' : Int32} {l13 l14 : Nat → Int32} (h13 : ∀ i, i < 5 → a13 i = l13 i) (h14 : ∀ i, i < 5 → a14 i = l14 i)
    (h : mf_fin l13 l14 ch rf fd bs bc = some (fd', bs', bc')) (hp : post (pc, 0, 0, rd, 0, 0, ch, rf, ct, fd', bs', bc', a1, a2, a3, a4, a5, a6, a7, a8, a9, a10, a11, a12, a13, a14, a15, a16, a17, a18)) : wpX_finish post (pc, 0, 0, rd, 0, 0, ch, rf, ct, fd, bs, bc, a1, a2, a3, a4, a5, a6, a7, a8, a9, a10, a11, a12, a13, a14, a15, a16, a17, a18) := by
  unfold mf_fin at h
  rcases hd : mc_cost l13 l14 ch rf with _ | k
  · rw [hd] at h
    cases h
  · rw [hd] at h
    dsimp only at h
    unfold wpX_finish
    dsimp only
    refine nm_e (pd_cost h13 h14 hd ?_)
    by_cases c1 : k < bc
    · rw [if_pos c1] at h
      cases h
      exact br_t c1 hp
    · rw [if_neg c1] at h
      refine br_f c1 ?_
      by_cases c2 : k = bc
      · rw [if_pos c2] at h
        refine br_t c2 ?_
        by_cases c3 : bs ≤ ch
        · rw [if_pos c3] at h
          cases h
          exact br_t c3 hp
        · rw [if_neg c3] at h
          cases h
          exact br_f c3 hp
      · rw [if_neg c2] at h
        cases h
        exact br_f c2 hp
theorem pd_33 {post : Int32 → St2 → Prop} {x1 x2 p : Int32} (hp : wX_branch_53 post x1 p pc 0 0 rd 0 0 ch rf ct fd bs bc a1 a2 a3 a4 a5 a6 a7 a8 a9 a10 a11 a12 a13 a14 a15 a16 a17 a18) :
    ∀ (n : Nat) (x3 : Int32), mb_33 x2 n x3 = some p → wX_branch_33 post x1 x2 pc 0 0 rd 0 0 ch rf ct fd bs bc a1 a2 a3 a4 a5 a6 a7 a8 a9 a10 a11 a12 a13 a14 a15 a16 a17 a18 n x3 := by
  intro n
  induction n with
  | zero =>
    intro x3 h
    rw [mb_33] at h
    cases h
  | succ n ih =>
    intro x3 h
    rw [mb_33] at h
    by_cases c1 : 9 ≤ x3
    · rw [if_pos c1] at h
      cases h
      exact br_t c1 hp
    · rw [if_neg c1] at h
      refine br_f c1 ?_
      by_cases c2 : ((x2 >>> (x3 &&& 31)) &&& 1) = 0
      · rw [if_pos c2] at h
        exact br_t c2 (nm_e (ih _ h))
      · rw [if_neg c2] at h
        cases h
        exact br_f c2 hp
theorem pd_br {post : Int32 → St2 → Prop} {x1 d ch' rf' fd' bs' bc' : Int32} {l13 l14 b15 b16 b17 b18 : Nat → Int32} (h13 : ∀ i, i < 5 → a13 i = l13 i) (h14 : ∀ i, i < 5 → a14 i = l14 i)
    (h : mb_br pc l13 l14 x1 ch rf fd bs bc a15 a16 a17 a18 = some (d, ch', rf', fd', bs', bc', b15, b16, b17, b18))
    (hp : post d (pc, 0, 0, rd, 0, 0, ch', rf', ct, fd', bs', bc', a1, a2, a3, a4, a5, a6, a7, a8, a9, a10, a11, a12, a13, a14, b15, b16, b17, b18)) : wpX_branch post (pc, 0, 0, rd, 0, 0, ch, rf, ct, fd, bs, bc, a1, a2, a3, a4, a5, a6, a7, a8, a9, a10, a11, a12, a13, a14, a15, a16, a17, a18) x1 := by
  unfold mb_br at h
  unfold wpX_branch
  dsimp only
  refine nm_e ?_
  by_cases c1 : (((1 : Int32) <<< (pc &&& 31)) - 1) &&& ((ch ||| rf) ^^^ (-1)) = 0
  · rw [if_pos c1] at h
    refine br_t c1 ?_
    rcases hd : mf_fin l13 l14 ch rf fd bs bc with _ | ⟨q1, q2, q3⟩
    · rw [hd] at h
      cases h
    · rw [hd] at h
      dsimp only at h
      cases h
      exact pd_fin h13 h14 hd hp
  · rw [if_neg c1] at h
    refine br_f c1 ?_
    rcases hd : mb_33 ((((1 : Int32) <<< (pc &&& 31)) - 1) &&& ((ch ||| rf) ^^^ (-1))) 10 0 with _ | p
    · rw [hd] at h
      cases h
    · rw [hd] at h
      dsimp only at h
      by_cases c2 : mv_in (x1 + 1) 11 = true
      · rw [if_pos c2] at h
        cases h
        have hv : vp_in (x1 + 1) 11 := mv_up c2 (by decide)
        exact ⟨10, pd_33 (nm_e ⟨hv, nm_e ⟨hv, nm_e ⟨hv, nm_e ⟨hv, nm_e hp⟩⟩⟩⟩) 10 _ hd⟩
      · rw [if_neg c2] at h
        cases h
theorem pd_187 {post : St2 → Prop} {J : Int32 → Int32 → Int32 → Int32 → Int32 → Int32 → Int32 → Int32 → Int32 → Int32 → Int32 → Int32 → Int32 → Int32 → (Nat → Int32) → (Nat → Int32) → (Nat → Int32) → (Nat → Int32) → (Nat → Int32) → (Nat → Int32) → (Nat → Int32) → (Nat → Int32) → (Nat → Int32) → (Nat → Int32) → (Nat → Int32) → (Nat → Int32) → (Nat → Int32) → (Nat → Int32) → (Nat → Int32) → (Nat → Int32) → (Nat → Int32) → (Nat → Int32) → Prop} {x2 x3 d ch' rf' fd' bs' bc' : Int32} {c : Nat} {l4 l11 l12 l13 l14 b15 b16 b17 b18 : Nat → Int32} (hc : c ≤ 10) (h4 : ∀ i, i < c → a4 i = l4 i) (h11 : a11 0 = l11 0) (h12 : ∀ i, i < c → a12 i = l12 i) (h13 : ∀ i, i < 5 → a13 i = l13 i) (h14 : ∀ i, i < 5 → a14 i = l14 i)
    (h : ms_187 pc ct c l4 l11 l12 l13 l14 x2 ch rf fd bs bc a15 a16 a17 a18 = some (d, ch', rf', fd', bs', bc', b15, b16, b17, b18))
    (hj : J d (x3 + 1) pc 0 0 rd 0 0 ch' rf' ct fd' bs' bc' a1 a2 a3 a4 a5 a6 a7 a8 a9 a10 a11 a12 a13 a14 b15 b16 b17 b18) : wX_search_187 post J x2 x3 pc 0 0 rd 0 0 ch rf ct fd bs bc a1 a2 a3 a4 a5 a6 a7 a8 a9 a10 a11 a12 a13 a14 a15 a16 a17 a18 := by
  unfold ms_187 at h
  rcases hd : mp_prop pc c l4 l11 l12 ch rf with _ | ⟨q, c1, r1⟩
  · rw [hd] at h
    cases h
  · rw [hd] at h
    dsimp only at h
    refine pd_prop hc h4 h11 h12 hd ?_
    by_cases g1 : q = 0
    · rw [if_pos g1] at h
      cases h
      exact br_t g1 (nm_e hj)
    · rw [if_neg g1] at h
      refine br_f g1 ?_
      by_cases g2 : ct = 0
      · rw [if_pos g2] at h
        refine br_t g2 ?_
        rcases he : mc_cost l13 l14 c1 r1 with _ | k
        · rw [he] at h
          cases h
        · rw [he] at h
          dsimp only at h
          refine pd_cost h13 h14 he ?_
          by_cases g3 : bc < k
          · rw [if_pos g3] at h
            cases h
            exact br_t g3 (nm_e hj)
          · rw [if_neg g3] at h
            exact br_f g3 (pd_br h13 h14 h (nm_e hj))
      · rw [if_neg g2] at h
        exact br_f g2 (pd_br h13 h14 h (nm_e hj))
theorem pd_54 {post : St2 → Prop} {ch' rf' fd' bs' bc' : Int32} {c : Nat} {l4 l11 l12 l13 l14 b15 b16 b17 b18 : Nat → Int32} (hc : c ≤ 10) (h4 : ∀ i, i < c → a4 i = l4 i) (h11 : a11 0 = l11 0) (h12 : ∀ i, i < c → a12 i = l12 i) (h13 : ∀ i, i < 5 → a13 i = l13 i) (h14 : ∀ i, i < 5 → a14 i = l14 i)
    (hp : post (pc, 0, 0, rd, 0, 0, ch', rf', ct, fd', bs', bc', a1, a2, a3, a4, a5, a6, a7, a8, a9, a10, a11, a12, a13, a14, b15, b16, b17, b18)) :
    ∀ (n : Nat) (x2 x3 ch rf fd bs bc : Int32) (a15 a16 a17 a18 : Nat → Int32), ms_54 pc ct c l4 l11 l12 l13 l14 n x2 x3 ch rf fd bs bc a15 a16 a17 a18 = some (ch', rf', fd', bs', bc', b15, b16, b17, b18) → wX_search_54 post n x2 x3 pc 0 0 rd 0 0 ch rf ct fd bs bc a1 a2 a3 a4 a5 a6 a7 a8 a9 a10 a11 a12 a13 a14 a15 a16 a17 a18 := by
  intro n
  induction n with
  | zero =>
    intro x2 x3 ch rf fd bs bc a15 a16 a17 a18 h
    rw [ms_54] at h
    cases h
  | succ n ih =>
    intro x2 x3 ch rf fd bs bc a15 a16 a17 a18 h
    rw [ms_54] at h
    by_cases g1 : 4096 ≤ x3
    · rw [if_pos g1] at h
      cases h
      exact br_t g1 hp
    · rw [if_neg g1] at h
      refine br_f g1 ?_
      by_cases g2 : x2 < 0
      · rw [if_pos g2] at h
        cases h
        exact br_t g2 hp
      · rw [if_neg g2] at h
        refine br_f g2 ?_
        by_cases g3 : mv_in x2 11 = true
        · rw [if_pos g3] at h
          have hv : vp_in x2 11 := mv_up g3 (by decide)
          refine And.intro hv (nm_e ?_)
          by_cases g4 : a18 x2.toNatClampNeg = 2
          · rw [if_pos g4] at h
            exact br_t g4 (nm_e (nm_e (ih _ _ _ _ _ _ _ _ _ _ _ h)))
          · rw [if_neg g4] at h
            refine br_f g4 (And.intro hv (nm_e (And.intro hv (nm_e (And.intro hv (nm_e (And.intro hv (nm_e (br_t (pz_sr _) ?_)))))))))
            by_cases g5 : a18 x2.toNatClampNeg = 0
            · rw [if_pos g5] at h
              rcases hd : ms_187 pc ct c l4 l11 l12 l13 l14 x2 (a15 x2.toNatClampNeg) (a16 x2.toNatClampNeg ||| ((1 : Int32) <<< (a17 x2.toNatClampNeg &&& 31))) fd bs bc a15 a16 a17 (upd a18 x2.toNatClampNeg ((a18 x2.toNatClampNeg + 1).toInt8.toInt32)) with _ | ⟨d, c1, r1, fd1, bs1, bc1, g15, g16, g17, g18⟩
              · rw [hd] at h
                cases h
              · rw [hd] at h
                dsimp only at h
                exact br_t g5 (br_f (by decide) (nm_e (pd_187 hc h4 h11 h12 h13 h14 hd (ih _ _ _ _ _ _ _ _ _ _ _ h))))
            · rw [if_neg g5] at h
              rcases hd : ms_187 pc ct c l4 l11 l12 l13 l14 x2 (a15 x2.toNatClampNeg ||| ((1 : Int32) <<< (a17 x2.toNatClampNeg &&& 31))) (a16 x2.toNatClampNeg) fd bs bc a15 a16 a17 (upd a18 x2.toNatClampNeg ((a18 x2.toNatClampNeg + 1).toInt8.toInt32)) with _ | ⟨d, c1, r1, fd1, bs1, bc1, g15, g16, g17, g18⟩
              · rw [hd] at h
                cases h
              · rw [hd] at h
                dsimp only at h
                exact br_f g5 (br_t rfl (nm_e (pd_187 hc h4 h11 h12 h13 h14 hd (ih _ _ _ _ _ _ _ _ _ _ _ h))))
        · rw [if_neg g3] at h
          cases h
end
end
section
/-! A state that is prepared, or that 'prepare' brings there; right and search over it. -/
def pr_ok (c k : Nat) (w nc nt : Int32) (e : Bool) (a4 a11 a12 a13 a14 : Nat → Int32) : Prop :=
  (∀ i, i < c → a4 i = cl_4 nc i) ∧ a11 0 = nt ∧ (∀ i, i < c → a12 i = cl_12 e i) ∧ (∀ i, i < 5 → a13 i = cl_13 c k i) ∧ (∀ i, i < 5 → a14 i = cl_14 c k w i)
def pq_ok (c k : Nat) (w nc nt : Int32) (e : Bool) (pc rd : Int32) (a1 a2 a3 a4 a5 a6 a7 a8 a9 a10 a11 a12 a13 a14 : Nat → Int32) : Prop :=
  (nc = 0 → a11 0 = nt) ∧ ∀ (post : St2 → Prop) (ch rf ct fd bs bc : Int32) (a15 a16 a17 a18 : Nat → Int32),
    (∀ b11 b12 b13 b14 : Nat → Int32, pr_ok c k w nc nt e a4 b11 b12 b13 b14 → post (pc, 0, 0, 1, 0, 0, ch, rf, ct, fd, bs, bc, a1, a2, a3, a4, a5, a6, a7, a8, a9, a10, b11, b12, b13, b14, a15, a16, a17, a18)) → wpX_prepare post (pc, 0, 0, rd, 0, 0, ch, rf, ct, fd, bs, bc, a1, a2, a3, a4, a5, a6, a7, a8, a9, a10, a11, a12, a13, a14, a15, a16, a17, a18)
section
variable {pc rd ch rf ct fd bs bc : Int32} {a1 a2 a3 a4 a5 a6 a7 a8 a9 a10 a11 a12 a13 a14 a15 a16 a17 a18 : Nat → Int32} {c k : Nat} {w nc nt : Int32} {e : Bool}
theorem pq_of (h : pr_ok c k w nc nt e a4 a11 a12 a13 a14) : pq_ok c k w nc nt e pc 1 a1 a2 a3 a4 a5 a6 a7 a8 a9 a10 a11 a12 a13 a14 := by
  refine ⟨fun _ => h.2.1, ?_⟩
  intro post ch rf ct fd bs bc a15 a16 a17 a18 H
  exact br_f (by decide) (H _ _ _ _ h)
theorem rg_91 {post : Int32 → St2 → Prop} {st : Int32} (hp : post 1 (pc, 0, 0, rd, 0, 0, ch, rf, ct, fd, bs, bc, a1, a2, a3, a4, a5, a6, a7, a8, a9, a10, a11, a12, a13, a14, a15, a16, a17, a18)) : ∃ fu : Nat, wX_right_91 post st pc 0 0 rd 0 0 ch rf ct fd bs bc a1 a2 a3 a4 a5 a6 a7 a8 a9 a10 a11 a12 a13 a14 a15 a16 a17 a18 fu 0 :=
  pk_loop (σ := Unit) (fun n i _ => wX_right_91 post st pc 0 0 rd 0 0 ch rf ct fd bs bc a1 a2 a3 a4 a5 a6 a7 a8 a9 a10 a11 a12 a13 a14 a15 a16 a17 a18 n (nI i)) (fun _ _ => True) 5 0 () (by omega) trivial
    (fun n _ _ => pk_le 5 5 (fun _ => hp) (fun z => absurd z (by omega)))
    (fun n i _ hi _ hw => pk_le 5 i (fun z => absurd z (by omega)) (fun _ => ⟨pk_in i 5 hi, br_c
      (fun _ => br_t rfl (br_t (pz_sh i hi) (br_t rfl (nm_r (nI_1 i) (hw () trivial)))))
      (fun _ => br_f (by decide) (br_f (by decide) (br_t (pz_sh i hi) (nm_r (nI_1 i) (hw () trivial)))))⟩))
theorem rg_50 {post : Int32 → St2 → Prop} {J : Int32 → Prop} {st x2 : Int32} {v : Bool} {l4 l11 : Nat → Int32} (hv : vp_in x2 10) (h4 : a4 x2.toNatClampNeg = l4 x2.toNatClampNeg) (h11 : a11 0 = l11 0) (ht : v = true → J (x2 + 1)) (hf : v = false → post 0 (pc, 0, 0, rd, 0, 0, ch, rf, ct, fd, bs, bc, a1, a2, a3, a4, a5, a6, a7, a8, a9, a10, a11, a12, a13, a14, a15, a16, a17, a18)) :
    ∀ (n : Nat) (x3 : Int32), mr_50 st x2 l4 l11 n x3 = some v → wX_right_50 post J st x2 pc 0 0 rd 0 0 ch rf ct fd bs bc a1 a2 a3 a4 a5 a6 a7 a8 a9 a10 a11 a12 a13 a14 a15 a16 a17 a18 n x3 := by
  intro n
  induction n with
  | zero =>
    intro x3 h
    rw [mr_50] at h
    cases h
  | succ n ih =>
    intro x3 h
    rw [mr_50] at h
    refine And.intro hv ?_
    by_cases c1 : l4 x2.toNatClampNeg ≤ x3
    · rw [if_pos c1] at h
      cases h
      exact br_t (by rw [h4]; exact c1) (nm_e (ht rfl))
    · rw [if_neg c1] at h
      by_cases c0 : mv_in ((2 * x2) + x3) 1 = true
      · rw [if_pos c0] at h
        have hz : ((2 * x2) + x3).toNatClampNeg = 0 := by have := mv_lt c0; omega
        have e11 : a11 ((2 * x2) + x3).toNatClampNeg = l11 ((2 * x2) + x3).toNatClampNeg := by rw [hz]; exact h11
        refine br_f (by rw [h4]; exact c1) (And.intro (mv_up c0 (by decide)) ?_)
        by_cases c3 : l11 ((2 * x2) + x3).toNatClampNeg &&& st = 0
        · rw [if_pos c3] at h
          cases h
          exact br_t (by rw [e11]; exact c3) (hf rfl)
        · rw [if_neg c3] at h
          exact br_f (by rw [e11]; exact c3) (nm_e (ih _ h))
      · rw [if_neg c0] at h
        cases h
theorem rg_16 {post : Int32 → St2 → Prop} {st r : Int32} {l4 l11 l12 : Nat → Int32} (hc : c ≤ 10) (h4 : ∀ i, i < c → a4 i = l4 i) (h11 : a11 0 = l11 0) (h12 : ∀ i, i < c → a12 i = l12 i) (hp : post r (pc, 0, 0, rd, 0, 0, ch, rf, ct, fd, bs, bc, a1, a2, a3, a4, a5, a6, a7, a8, a9, a10, a11, a12, a13, a14, a15, a16, a17, a18)) :
    ∀ (n : Nat) (x2 : Int32), mr_16 pc st c l4 l11 l12 n x2 = some r → wX_right_16 post st pc 0 0 rd 0 0 ch rf ct fd bs bc a1 a2 a3 a4 a5 a6 a7 a8 a9 a10 a11 a12 a13 a14 a15 a16 a17 a18 n x2 := by
  intro n
  induction n with
  | zero =>
    intro x2 h
    rw [mr_16] at h
    cases h
  | succ n ih =>
    intro x2 h
    rw [mr_16] at h
    by_cases c1 : pc ≤ x2
    · rw [if_pos c1] at h
      cases h
      exact br_t c1 (rg_91 hp)
    · rw [if_neg c1] at h
      refine br_f c1 ?_
      by_cases c2 : ((st >>> (x2 &&& 31)) &&& 1) = 0
      · rw [if_pos c2] at h
        exact br_t c2 (nm_e (ih _ h))
      · rw [if_neg c2] at h
        by_cases c0 : mv_in x2 c = true
        · rw [if_pos c0] at h
          refine br_f c2 (And.intro (mv_up c0 hc) ?_)
          by_cases c3 : l12 x2.toNatClampNeg &&& st = 0
          · rw [if_pos c3] at h
            refine br_t (by rw [h12 _ (mv_lt c0)]; exact c3) ?_
            rcases hd : mr_50 st x2 l4 l11 3 0 with _ | v
            · rw [hd] at h
              cases h
            · rw [hd] at h
              cases v
              · dsimp only at h
                cases h
                exact ⟨3, rg_50 (mv_up c0 hc) (h4 _ (mv_lt c0)) h11 (fun z => nomatch z) (fun _ => hp) 3 _ hd⟩
              · dsimp only at h
                exact ⟨3, rg_50 (mv_up c0 hc) (h4 _ (mv_lt c0)) h11 (fun _ => ih _ h) (fun z => nomatch z) 3 _ hd⟩
          · rw [if_neg c3] at h
            cases h
            exact br_f (by rw [h12 _ (mv_lt c0)]; exact c3) hp
        · rw [if_neg c0] at h
          cases h
theorem rg_right {post : Int32 → St2 → Prop} {st r : Int32} (hc : c ≤ 10) (hq : pq_ok c k w nc nt e pc rd a1 a2 a3 a4 a5 a6 a7 a8 a9 a10 a11 a12 a13 a14)
    (h : mr_right pc st c (cl_4 nc) (cl_11 nt) (cl_12 e) = some r)
    (H : ∀ (rd' : Int32) (b11 b12 b13 b14 : Nat → Int32), pq_ok c k w nc nt e pc rd' a1 a2 a3 a4 a5 a6 a7 a8 a9 a10 b11 b12 b13 b14 → post r (pc, 0, 0, rd', 0, 0, ch, rf, ct, fd, bs, bc, a1, a2, a3, a4, a5, a6, a7, a8, a9, a10, b11, b12, b13, b14, a15, a16, a17, a18)) :
    wpX_right post (pc, 0, 0, rd, 0, 0, ch, rf, ct, fd, bs, bc, a1, a2, a3, a4, a5, a6, a7, a8, a9, a10, a11, a12, a13, a14, a15, a16, a17, a18) st := by
  unfold mr_right at h
  by_cases g1 : st < 0
  · rw [if_pos g1] at h
    cases h
    exact br_t g1 (br_t rfl (H _ _ _ _ _ hq))
  · rw [if_neg g1] at h
    by_cases g2 : ((1 : Int32) <<< (pc &&& 31)) ≤ st
    · rw [if_pos g2] at h
      cases h
      exact br_f g1 (br_t g2 (br_t rfl (H _ _ _ _ _ hq)))
    · rw [if_neg g2] at h
      refine br_f g1 (br_f g2 (br_f (by decide) ?_))
      refine hq.2 _ _ _ _ _ _ _ _ _ _ _ (fun b11 b12 b13 b14 hk => ?_)
      exact ⟨3, rg_16 hc hk.1 hk.2.1 hk.2.2.1 (H 1 b11 b12 b13 b14 (pq_of hk)) 3 _ h⟩
theorem rg_search {post : St2 → Prop} {p0 ch' rf' fd' bs' bc' : Int32} {b15 b16 b17 b18 : Nat → Int32} (hc : c ≤ 10) (hq : pq_ok c k w nc nt e pc rd a1 a2 a3 a4 a5 a6 a7 a8 a9 a10 a11 a12 a13 a14)
    (hn : narrow .boolean (.int p0) = .int p0) (hf : fits .boolean (.int p0) = true)
    (h : ms_search pc p0 c (cl_4 nc) (cl_11 nt) (cl_12 e) (cl_13 c k) (cl_14 c k w) a15 a16 a17 a18 = some (ch', rf', fd', bs', bc', b15, b16, b17, b18))
    (H : ∀ (rd' : Int32) (b11 b12 b13 b14 : Nat → Int32), pq_ok c k w nc nt e pc rd' a1 a2 a3 a4 a5 a6 a7 a8 a9 a10 b11 b12 b13 b14 →
      post (pc, 0, 0, rd', 0, 0, ch', rf', p0, fd', bs', bc', a1, a2, a3, a4, a5, a6, a7, a8, a9, a10, b11, b12, b13, b14, b15, b16, b17, b18)) :
    wpX_search post (pc, 0, 0, rd, 0, 0, ch, rf, ct, fd, bs, bc, a1, a2, a3, a4, a5, a6, a7, a8, a9, a10, a11, a12, a13, a14, a15, a16, a17, a18) p0 := by
  unfold wpX_search
  dsimp only
  refine hq.2 _ _ _ _ _ _ _ _ _ _ _ (fun b11 b12 b13 b14 hk => ⟨hn, hf, ?_⟩)
  unfold ms_search at h
  rcases hd : mp_prop pc c (cl_4 nc) (cl_11 nt) (cl_12 e) 0 0 with _ | ⟨q, c1, r1⟩
  · rw [hd] at h
    cases h
  · rw [hd] at h
    dsimp only at h
    refine pd_prop hc hk.1 hk.2.1 hk.2.2.1 hd ?_
    by_cases g1 : q = 0
    · rw [if_pos g1] at h
      exact br_t g1 ⟨16, pd_54 hc hk.1 hk.2.1 hk.2.2.1 hk.2.2.2.1 hk.2.2.2.2 (H 1 b11 b12 b13 b14 (pq_of hk)) 16 _ _ _ _ _ _ _ _ _ _ _ h⟩
    · rw [if_neg g1] at h
      refine br_f g1 ?_
      rcases he : mb_br pc (cl_13 c k) (cl_14 c k w) (-1) c1 r1 0 (-3) 4096 a15 a16 a17 a18 with _ | ⟨d, c2, r2, fd2, bs2, bc2, g15, g16, g17, g18⟩
      · rw [he] at h
        cases h
      · rw [he] at h
        dsimp only at h
        exact pd_br hk.2.2.2.1 hk.2.2.2.2 he ⟨16, pd_54 hc hk.1 hk.2.1 hk.2.2.1 hk.2.2.2.1 hk.2.2.2.2 (H 1 b11 b12 b13 b14 (pq_of hk)) 16 _ _ _ _ _ _ _ _ _ _ _ h⟩
end
end
section
/-! prepare: fitting, listNames, the needs, the clashes. -/
def ft_b (pat ris nm ver fe : Int32) : Bool :=
  if pat < 50 then
    (if nm = (pat / 10) then (if ris = 0 then !decide ((pat - pat / 10 * 10) < ver) else !decide (ver < (pat - pat / 10 * 10))) else false)
  else !decide (((fe >>> ((pat - 50) &&& 31)) &&& 1) = 0)
def ft_a (b : Bool) (x3 x4 : Int32) : Int32 := if b = true then x3 ||| ((1 : Int32) <<< (x4 &&& 31)) else x3
theorem ft_v1 : ∀ b0 : Bool, ft_a b0 0 0 = cl_nt b0 false := by decide
theorem ft_v2 : ∀ b0 b1 : Bool, ft_a b1 (ft_a b0 0 0) 1 = cl_nt b0 b1 := by decide
theorem cz_0 : (0 : Int32).toNatClampNeg = 0 := by decide
theorem cz_1 : (1 : Int32).toNatClampNeg = 1 := by decide
theorem vz_0 {n : Nat} (h : 0 < n) (hn : n < 2 ^ 31) : vp_in 0 n := pk_in 0 n h
theorem vz_1 {n : Nat} (h : 1 < n) (hn : n < 2 ^ 31) : vp_in 1 n := pk_in 1 n h
section
variable {pc rd ch rf ct fd bs bc : Int32} {a1 a2 a3 a4 a5 a6 a7 a8 a9 a10 a11 a12 a13 a14 a15 a16 a17 a18 : Nat → Int32}
theorem ft_114f {post : Int32 → Prop} {J : Int32 → Int32 → Prop} {x1 x2 x3 x4 : Int32} (H : J (ft_a false x3 x4) (x4 + 1)) : wX_fitting_114 post J x1 x2 x3 x4 0 pc 0 0 rd 0 0 ch rf ct fd bs bc a1 a2 a3 a4 a5 a6 a7 a8 a9 a10 a11 a12 a13 a14 a15 a16 a17 a18 :=
  br_t rfl (nm_e H)
theorem ft_114t {post : Int32 → Prop} {J : Int32 → Int32 → Prop} {x1 x2 x3 x4 : Int32} (H : J (ft_a true x3 x4) (x4 + 1)) : wX_fitting_114 post J x1 x2 x3 x4 1 pc 0 0 rd 0 0 ch rf ct fd bs bc a1 a2 a3 a4 a5 a6 a7 a8 a9 a10 a11 a12 a13 a14 a15 a16 a17 a18 :=
  br_f (by decide) (nm_e (nm_e H))
theorem ft_step {post : Int32 → Prop} {pat ris x3 x4 y4 : Int32} {n : Nat} (hn : ¬ pc ≤ x4) (hv : vp_in x4 10) (hy : x4 + 1 = y4)
    (H : wX_fitting_5 post pat ris pc 0 0 rd 0 0 ch rf ct fd bs bc a1 a2 a3 a4 a5 a6 a7 a8 a9 a10 a11 a12 a13 a14 a15 a16 a17 a18 n (ft_a (ft_b pat ris (a1 x4.toNatClampNeg) (a2 x4.toNatClampNeg) (a3 x4.toNatClampNeg)) x3 x4) y4) : wX_fitting_5 post pat ris pc 0 0 rd 0 0 ch rf ct fd bs bc a1 a2 a3 a4 a5 a6 a7 a8 a9 a10 a11 a12 a13 a14 a15 a16 a17 a18 (n + 1) x3 x4 := by
  subst hy
  refine br_f hn ?_
  by_cases g1 : pat < 50
  · refine br_t g1 (And.intro hv (And.intro (by decide) ?_))
    by_cases g2 : a1 x4.toNatClampNeg = (pat / 10)
    · refine br_t g2 ?_
      by_cases g3 : ris = 0
      · refine br_t g3 (And.intro hv (And.intro (by decide) ?_))
        by_cases g4 : (pat - pat / 10 * 10) < a2 x4.toNatClampNeg
        · have e : ft_b pat ris (a1 x4.toNatClampNeg) (a2 x4.toNatClampNeg) (a3 x4.toNatClampNeg) = false := by
            unfold ft_b
            rw [if_pos g1, if_pos g2, if_pos g3, decide_eq_true g4]
            rfl
          rw [e] at H
          exact br_t g4 (ft_114f H)
        · have e : ft_b pat ris (a1 x4.toNatClampNeg) (a2 x4.toNatClampNeg) (a3 x4.toNatClampNeg) = true := by
            unfold ft_b
            rw [if_pos g1, if_pos g2, if_pos g3, decide_eq_false g4]
            rfl
          rw [e] at H
          exact br_f g4 (ft_114t H)
      · refine br_f g3 (And.intro hv (And.intro (by decide) ?_))
        by_cases g4 : a2 x4.toNatClampNeg < (pat - pat / 10 * 10)
        · have e : ft_b pat ris (a1 x4.toNatClampNeg) (a2 x4.toNatClampNeg) (a3 x4.toNatClampNeg) = false := by
            unfold ft_b
            rw [if_pos g1, if_pos g2, if_neg g3, decide_eq_true g4]
            rfl
          rw [e] at H
          exact br_t g4 (ft_114f H)
        · have e : ft_b pat ris (a1 x4.toNatClampNeg) (a2 x4.toNatClampNeg) (a3 x4.toNatClampNeg) = true := by
            unfold ft_b
            rw [if_pos g1, if_pos g2, if_neg g3, decide_eq_false g4]
            rfl
          rw [e] at H
          exact br_f g4 (ft_114t H)
    · have e : ft_b pat ris (a1 x4.toNatClampNeg) (a2 x4.toNatClampNeg) (a3 x4.toNatClampNeg) = false := by
        unfold ft_b
        rw [if_pos g1, if_neg g2]
      rw [e] at H
      exact br_f g2 (ft_114f H)
  · refine br_f g1 (And.intro hv ?_)
    by_cases g4 : (((a3 x4.toNatClampNeg) >>> ((pat - 50) &&& 31)) &&& 1) = 0
    · have e : ft_b pat ris (a1 x4.toNatClampNeg) (a2 x4.toNatClampNeg) (a3 x4.toNatClampNeg) = false := by
        unfold ft_b
        rw [if_neg g1, decide_eq_true g4]
        rfl
      rw [e] at H
      exact br_t g4 (ft_114f H)
    · have e : ft_b pat ris (a1 x4.toNatClampNeg) (a2 x4.toNatClampNeg) (a3 x4.toNatClampNeg) = true := by
        unfold ft_b
        rw [if_neg g1, decide_eq_false g4]
        rfl
      rw [e] at H
      exact br_f g4 (ft_114t H)
theorem ft_1 {post : Int32 → Prop} {pat ris : Int32} (H : post (cl_nt (ft_b pat ris (a1 0) (a2 0) (a3 0)) false)) : wpX_fitting post (1, 0, 0, rd, 0, 0, ch, rf, ct, fd, bs, bc, a1, a2, a3, a4, a5, a6, a7, a8, a9, a10, a11, a12, a13, a14, a15, a16, a17, a18) pat ris := by
  refine ⟨2, ft_step (y4 := 1) (by decide) (vz_0 (by decide) (by decide)) rfl ?_⟩
  rw [cz_0, ft_v1]
  exact br_t (by decide) H
theorem ft_2 {post : Int32 → Prop} {pat ris : Int32} (H : post (cl_nt (ft_b pat ris (a1 0) (a2 0) (a3 0)) (ft_b pat ris (a1 1) (a2 1) (a3 1)))) : wpX_fitting post (2, 0, 0, rd, 0, 0, ch, rf, ct, fd, bs, bc, a1, a2, a3, a4, a5, a6, a7, a8, a9, a10, a11, a12, a13, a14, a15, a16, a17, a18) pat ris := by
  refine ⟨3, ft_step (y4 := 1) (by decide) (vz_0 (by decide) (by decide)) rfl (ft_step (y4 := 2) (by decide) (vz_1 (by decide) (by decide)) rfl ?_)⟩
  rw [cz_0, cz_1, ft_v2]
  exact br_t (by decide) H
end
theorem pe_fill {f : Nat → Int32} {v : Int32} {i k : Nat} (hk : k = i) (h : ∀ j, j < i → f j = v) : ∀ j, j < i + 1 → upd f k v j = v := by
  intro j hj
  by_cases e : j = k
  · rw [e, pk_us]
  · rw [pk_un e]
    exact h j (by omega)
theorem pe_a13 {z : Nat → Int32} (hz : ∀ j, j < 5 → z j = 0) : ∀ i, i < 5 → upd z 0 (z 0 ||| ((1 : Int32) <<< ((0 : Int32) &&& 31))) i = cl_13 1 0 i := by
  intro i hi
  by_cases e : i = 0
  · rw [e, pk_us, hz 0 (by omega)]
    decide
  · rw [pk_un e, hz i hi]
    unfold cl_13
    rw [if_neg (by decide), if_neg e]
theorem pe_a14 {z : Nat → Int32} (hz : ∀ j, j < 5 → z j = -1) : ∀ i, i < 5 → upd z 0 ((0 : Int32).toInt8.toInt32) i = cl_14 1 0 0 i := by
  intro i hi
  by_cases e : i = 0
  · rw [e, pk_us]
    decide
  · rw [pk_un e, hz i hi]
    unfold cl_14
    rw [if_neg e, if_neg (by decide)]
theorem pe_t13 : ∀ k, k < 5 → ∀ i, i < 5 → (if i = k then (cl_13 1 0 k ||| ((1 : Int32) <<< ((1 : Int32) &&& 31))) else cl_13 1 0 i) = cl_13 2 k i := by decide +kernel
theorem pe_t14 : ∀ k, k < 5 → ¬ k = 0 → ∀ i, i < 5 → (if i = k then ((1 : Int32).toInt8.toInt32) else cl_14 1 0 0 i) = cl_14 2 k 0 i := by decide +kernel
theorem pe_t14a : ∀ i, i < 5 → cl_14 1 0 0 i = cl_14 2 0 0 i := by decide +kernel
theorem pe_t14b : ∀ i, i < 5 → (if i = 0 then ((1 : Int32).toInt8.toInt32) else cl_14 1 0 0 i) = cl_14 2 0 1 i := by decide +kernel
theorem pe_n14 : ∀ k, k < 5 → ¬ k = 0 → cl_14 1 0 0 k < 0 := by decide +kernel
theorem pe_upd {f g : Nat → Int32} {k : Nat} {v u : Int32} (hv : v = u) (h : ∀ i, i < 5 → f i = g i) : ∀ i, i < 5 → upd f k v i = (if i = k then u else g i) := by
  intro i hi
  unfold upd
  rw [hv, h i hi]
/-- newest of name 0 is the second package -/
def pe_w (k : Nat) (ver : Int32) : Bool := decide (k = 0) && !decide (ver ≤ 5)
section
variable {pc rd ch rf ct fd bs bc : Int32} {a1 a2 a3 a4 a5 a6 a7 a8 a9 a10 a11 a12 a13 a14 a15 a16 a17 a18 : Nat → Int32}
theorem pe_ln {post : St2 → Prop} (H : ∀ b13 b14 : Nat → Int32, (∀ j, j < 5 → b13 j = 0) → (∀ j, j < 5 → b14 j = -1) → ∃ fu : Nat, wX_listNames_29 post pc 0 0 rd 0 0 ch rf ct fd bs bc fu 0 a1 a2 a3 a4 a5 a6 a7 a8 a9 a10 a11 a12 b13 b14 a15 a16 a17 a18) : wpX_listNames post (pc, 0, 0, rd, 0, 0, ch, rf, ct, fd, bs, bc, a1, a2, a3, a4, a5, a6, a7, a8, a9, a10, a11, a12, a13, a14, a15, a16, a17, a18) :=
  pk_loop (σ := (Nat → Int32) × (Nat → Int32)) (fun n i s => wX_listNames_2 post pc 0 0 rd 0 0 ch rf ct fd bs bc n (nI i) a1 a2 a3 a4 a5 a6 a7 a8 a9 a10 a11 a12 (s.1) (s.2) a15 a16 a17 a18) (fun i s => (∀ j, j < i → s.1 j = 0) ∧ (∀ j, j < i → s.2 j = -1)) 5 0 (a13, a14) (by omega)
    ⟨fun j hj => absurd hj (by omega), fun j hj => absurd hj (by omega)⟩
    (fun n s h => pk_le 5 5 (fun _ => H _ _ h.1 h.2) (fun z => absurd z (by omega)))
    (fun n i s hi h hw => pk_le 5 i (fun z => absurd z (by omega)) (fun _ => ⟨pk_in i 5 hi, nm_e ⟨pk_in i 5 hi, nm_e (nm_r (nI_1 i) (hw (_, _) ⟨pe_fill (nI_clamp (by omega)) h.1, pe_fill (nI_clamp (by omega)) h.2⟩))⟩⟩))
theorem pe_it0 {post : St2 → Prop} {n : Nat} (hpc : ¬ pc ≤ 0) (h1 : a1 0 = 0) (h13 : ∀ j, j < 5 → a13 j = 0) (h14 : ∀ j, j < 5 → a14 j = -1)
    (H : ∀ b13 b14 : Nat → Int32, (∀ i, i < 5 → b13 i = cl_13 1 0 i) → (∀ i, i < 5 → b14 i = cl_14 1 0 0 i) → wX_listNames_29 post pc 0 0 rd 0 0 ch rf ct fd bs bc n 1 a1 a2 a3 a4 a5 a6 a7 a8 a9 a10 a11 a12 b13 b14 a15 a16 a17 a18) : wX_listNames_29 post pc 0 0 rd 0 0 ch rf ct fd bs bc (n + 1) 0 a1 a2 a3 a4 a5 a6 a7 a8 a9 a10 a11 a12 a13 a14 a15 a16 a17 a18 := by
  have v5 : vp_in 0 5 := vz_0 (by decide) (by decide)
  have v10 : vp_in 0 10 := vz_0 (by decide) (by decide)
  refine br_f hpc ⟨v10, nm_r (e' := 0) (by rw [cz_0]; exact h1) ⟨v5, v5, nm_e ⟨v5, br_t ?_ ?_⟩⟩⟩
  · rw [cz_0, h14 0 (by omega)]
    decide
  · refine ⟨v5, nm_e (nm_r (e' := 1) rfl ?_)⟩
    rw [cz_0]
    exact H _ _ (pe_a13 h13) (pe_a14 h14)
theorem pe_it1 {post : St2 → Prop} {n k : Nat} (hk : k < 5) (h1 : a1 1 = nI k) (h2 : a2 0 = 5) (h13 : ∀ i, i < 5 → a13 i = cl_13 1 0 i) (h14 : ∀ i, i < 5 → a14 i = cl_14 1 0 0 i)
    (H : ∀ b13 b14 : Nat → Int32, (∀ i, i < 5 → b13 i = cl_13 2 k i) → (∀ i, i < 5 → b14 i = cl_14 2 k (bo_i (pe_w k (a2 1))) i) → wX_listNames_29 post 2 0 0 rd 0 0 ch rf ct fd bs bc n 2 a1 a2 a3 a4 a5 a6 a7 a8 a9 a10 a11 a12 b13 b14 a15 a16 a17 a18) : wX_listNames_29 post 2 0 0 rd 0 0 ch rf ct fd bs bc (n + 1) 1 a1 a2 a3 a4 a5 a6 a7 a8 a9 a10 a11 a12 a13 a14 a15 a16 a17 a18 := by
  have v5 : vp_in (nI k) 5 := vp_in_nI hk (by decide)
  have v10 : vp_in 1 10 := vz_1 (by decide) (by decide)
  have ck : (nI k).toNatClampNeg = k := nI_clamp (by omega)
  have e13 : ∀ i, i < 5 → upd a13 k (a13 k ||| ((1 : Int32) <<< ((1 : Int32) &&& 31))) i = cl_13 2 k i := fun i hi => by
    rw [pe_upd (u := cl_13 1 0 k ||| ((1 : Int32) <<< ((1 : Int32) &&& 31))) (by rw [h13 k hk]) h13 i hi]
    exact pe_t13 k hk i hi
  refine br_f (by decide) ⟨v10, nm_r (e' := nI k) (by rw [cz_1]; exact h1) ⟨v5, v5, nm_e ⟨v5, ?_⟩⟩⟩
  rw [ck]
  by_cases k0 : k = 0
  · subst k0
    have z14 : a14 0 = 0 := h14 0 (by omega)
    refine br_f (by rw [z14]; decide) ⟨v10, v5, by rw [z14]; exact vz_0 (by decide) (by decide), ?_⟩
    rw [z14, cz_0, cz_1, h2]
    by_cases g : a2 1 ≤ 5
    · refine br_t g (nm_r (e' := 2) rfl (H _ _ e13 ?_))
      intro i hi
      rw [show pe_w 0 (a2 1) = false from by unfold pe_w; rw [decide_eq_true g]; rfl, h14 i hi]
      exact pe_t14a i hi
    · refine br_f g ⟨v5, nm_e (nm_r (e' := 2) rfl ?_)⟩
      rw [show (nI 0).toNatClampNeg = 0 from ck]
      refine H _ _ e13 ?_
      intro i hi
      rw [show pe_w 0 (a2 1) = true from by unfold pe_w; rw [decide_eq_false g]; rfl, pe_upd rfl h14 i hi]
      exact pe_t14b i hi
  · refine br_t (by rw [h14 k hk]; exact pe_n14 k hk k0) ⟨v5, nm_e (nm_r (e' := 2) rfl ?_)⟩
    rw [ck]
    refine H _ _ e13 ?_
    intro i hi
    rw [show pe_w k (a2 1) = false from by unfold pe_w; rw [decide_eq_false k0]; rfl, pe_upd rfl h14 i hi]
    exact pe_t14 k hk k0 i hi
theorem pe_l1 {post : St2 → Prop} (h1 : a1 0 = 0) (H : ∀ b13 b14 : Nat → Int32, (∀ i, i < 5 → b13 i = cl_13 1 0 i) → (∀ i, i < 5 → b14 i = cl_14 1 0 0 i) → post (1, 0, 0, rd, 0, 0, ch, rf, ct, fd, bs, bc, a1, a2, a3, a4, a5, a6, a7, a8, a9, a10, a11, a12, b13, b14, a15, a16, a17, a18)) : wpX_listNames post (1, 0, 0, rd, 0, 0, ch, rf, ct, fd, bs, bc, a1, a2, a3, a4, a5, a6, a7, a8, a9, a10, a11, a12, a13, a14, a15, a16, a17, a18) :=
  pe_ln (fun z13 z14 h13 h14 => ⟨2, pe_it0 (by decide) h1 h13 h14 (fun b13 b14 k13 k14 => br_t (by decide) (H b13 b14 k13 k14))⟩)
theorem pe_l2 {post : St2 → Prop} {k : Nat} (hk : k < 5) (h1 : a1 0 = 0) (h1' : a1 1 = nI k) (h2 : a2 0 = 5)
    (H : ∀ b13 b14 : Nat → Int32, (∀ i, i < 5 → b13 i = cl_13 2 k i) → (∀ i, i < 5 → b14 i = cl_14 2 k (bo_i (pe_w k (a2 1))) i) → post (2, 0, 0, rd, 0, 0, ch, rf, ct, fd, bs, bc, a1, a2, a3, a4, a5, a6, a7, a8, a9, a10, a11, a12, b13, b14, a15, a16, a17, a18)) : wpX_listNames post (2, 0, 0, rd, 0, 0, ch, rf, ct, fd, bs, bc, a1, a2, a3, a4, a5, a6, a7, a8, a9, a10, a11, a12, a13, a14, a15, a16, a17, a18) :=
  pe_ln (fun z13 z14 h13 h14 => ⟨3, pe_it0 (by decide) h1 h13 h14 (fun y13 y14 j13 j14 => pe_it1 hk h1' h2 j13 j14 (fun b13 b14 k13 k14 => br_t (by decide) (H b13 b14 k13 k14)))⟩)
end
end
section
/-! prepare, its loops over the packages: needs, clashes; the whole. -/
theorem pe_same (f : Nat → Int32) (k : Nat) : upd f k (f k ||| 0) = f := by
  funext j
  unfold upd
  by_cases e : j = k
  · rw [if_pos e, e, Int32.or_zero]
  · rw [if_neg e]
theorem pe_ag : ∀ b0 b1 : Bool, (((0 : Int32) ||| cl_nt b0 b1) &&& (((1 : Int32) <<< ((1 : Int32) &&& 31)) ^^^ (-1))) = bo_i b0 := by decide
theorem pe_e0 : ∀ k, k < 5 → (cl_13 2 k 0 &&& (((1 : Int32) <<< ((0 : Int32) &&& 31)) ^^^ (-1))) = cl_12 (cl_e true k false) 0 := by decide +kernel
theorem pe_e1 : ∀ k, k < 5 → (cl_13 2 k k &&& (((1 : Int32) <<< ((1 : Int32) &&& 31)) ^^^ (-1))) = cl_12 (cl_e true k false) 1 := by decide +kernel
theorem pe_f0 : ∀ k, k < 5 → ∀ t : Bool, (if t = true then cl_12 (cl_e true k false) 0 ||| 2 else cl_12 (cl_e true k false) 0) = cl_12 (cl_e true k t) 0 := by decide +kernel
theorem pe_f1 : ∀ k, k < 5 → ∀ t : Bool, (if t = true then cl_12 (cl_e true k false) 1 ||| 1 else cl_12 (cl_e true k false) 1) = cl_12 (cl_e true k t) 1 := by decide +kernel
section
variable {pc rd ch rf ct fd bs bc : Int32} {a1 a2 a3 a4 a5 a6 a7 a8 a9 a10 a11 a12 a13 a14 a15 a16 a17 a18 : Nat → Int32}
/-- a package without clashes: nothing changes -/
theorem pe_lc0 {post : St2 → Prop} {p : Int32} {c : Nat} (hpc : pc = nI c) (hc : c ≤ 10) (hv : vp_in p 10) (h7 : a7 p.toNatClampNeg = 0) (H : post (pc, 0, 0, rd, 0, 0, ch, rf, ct, fd, bs, bc, a1, a2, a3, a4, a5, a6, a7, a8, a9, a10, a11, a12, a13, a14, a15, a16, a17, a18)) : wpX_listClashes post (pc, 0, 0, rd, 0, 0, ch, rf, ct, fd, bs, bc, a1, a2, a3, a4, a5, a6, a7, a8, a9, a10, a11, a12, a13, a14, a15, a16, a17, a18) p := by
  subst hpc
  refine ⟨1, hv, br_t (by rw [h7]; decide) (nm_r (e' := 0) Int32.zero_and ⟨hv, hv, nm_r (pe_same a12 p.toNatClampNeg) ?_⟩)⟩
  exact pk_loop (σ := Unit) (fun n i _ => wX_listClashes_58 post p 0 (nI c) 0 0 rd 0 0 ch rf ct fd bs bc n (nI i) a1 a2 a3 a4 a5 a6 a7 a8 a9 a10 a11 a12 a13 a14 a15 a16 a17 a18) (fun _ _ => True) c 0 () (by omega) trivial
    (fun n _ _ => pk_le c c (fun _ => H) (fun z => absurd z (by omega)))
    (fun n i _ hi _ hw => pk_le c i (fun z => absurd z (by omega)) (fun _ => br_t (pz_sr _) (nm_r (nI_1 i) (hw () trivial))))
/-- the second package's one clash, which the first package fits (b0) or not -/
theorem pe_lc1 {post : St2 → Prop} (h7 : a7 1 = 1)
    (H : ∀ b12 : Nat → Int32, b12 0 = (if ft_b (a8 2) 0 (a1 0) (a2 0) (a3 0) = true then a12 0 ||| 2 else a12 0) → b12 1 = (if ft_b (a8 2) 0 (a1 0) (a2 0) (a3 0) = true then a12 1 ||| 1 else a12 1) → post (2, 0, 0, rd, 0, 0, ch, rf, ct, fd, bs, bc, a1, a2, a3, a4, a5, a6, a7, a8, a9, a10, a11, b12, a13, a14, a15, a16, a17, a18)) :
    wpX_listClashes post (2, 0, 0, rd, 0, 0, ch, rf, ct, fd, bs, bc, a1, a2, a3, a4, a5, a6, a7, a8, a9, a10, a11, a12, a13, a14, a15, a16, a17, a18) 1 := by
  have v10 : vp_in 1 10 := vz_1 (by decide) (by decide)
  have u10 : vp_in 0 10 := vz_0 (by decide) (by decide)
  refine ⟨2, v10, br_f (by rw [cz_1, h7]; decide) ⟨pk_in 2 20 (by omega), ?_⟩⟩
  rw [show (((2 : Int32) * 1) + 0).toNatClampNeg = 2 from by decide]
  refine ft_2 (nm_e (nm_r (e' := 1) rfl ?_))
  refine ⟨v10, br_t (by rw [cz_1, h7]; decide) (nm_r (pe_ag _ _) ⟨v10, v10, nm_e ?_⟩)⟩
  rw [cz_1]
  cases hb : ft_b (a8 2) 0 (a1 0) (a2 0) (a3 0)
  · rw [hb] at H
    refine ⟨3, br_f (by decide) (br_t (by decide) (nm_r (e' := 1) rfl (br_f (by decide) (br_t (by decide) (nm_r (e' := 2) rfl (br_t (by decide) (H _ ?_ ?_)))))))⟩
    · rw [pk_un (by decide), if_neg (by decide)]
    · rw [pk_us, if_neg (by decide), show bo_i false = 0 from rfl, Int32.or_zero]
  · rw [hb] at H
    refine ⟨3, br_f (by decide) (br_f (by decide) ⟨u10, u10, nm_e (nm_r (e' := 1) rfl (br_f (by decide) (br_t (by decide) (nm_r (e' := 2) rfl (br_t (by decide) (H _ ?_ ?_))))))⟩)⟩
    · rw [cz_0, pk_us, pk_un (by decide), if_pos rfl]
      rfl
    · rw [cz_0, pk_un (by decide), pk_us, if_pos rfl]
      rfl
/-- a package whose needs are done -/
theorem pe_29z {post : St2 → Prop} {J : Int32 → (Nat → Int32) → (Nat → Int32) → (Nat → Int32) → (Nat → Int32) → (Nat → Int32) → (Nat → Int32) → (Nat → Int32) → (Nat → Int32) → (Nat → Int32) → (Nat → Int32) → (Nat → Int32) → (Nat → Int32) → (Nat → Int32) → (Nat → Int32) → (Nat → Int32) → (Nat → Int32) → (Nat → Int32) → (Nat → Int32) → Prop} {p p' x2 : Int32} {n : Nat} (hv : vp_in p 10) (h4 : a4 p.toNatClampNeg ≤ x2) (h1 : vp_in (a1 p.toNatClampNeg) 5) (hp : p + 1 = p')
    (H : J p' a1 a2 a3 a4 a5 a6 a7 a8 a9 a10 a11 (upd a12 p.toNatClampNeg (a13 (a1 p.toNatClampNeg).toNatClampNeg &&& (((1 : Int32) <<< (p &&& 31)) ^^^ (-1)))) a13 a14 a15 a16 a17 a18) : wX_prepare_29 post J p pc 0 0 rd 0 0 ch rf ct fd bs bc (n + 1) x2 a1 a2 a3 a4 a5 a6 a7 a8 a9 a10 a11 a12 a13 a14 a15 a16 a17 a18 :=
  ⟨hv, br_t h4 ⟨hv, h1, hv, nm_e (nm_r hp H)⟩⟩
/-- the first package's one need -/
theorem pe_29o {post : St2 → Prop} {J : Int32 → (Nat → Int32) → (Nat → Int32) → (Nat → Int32) → (Nat → Int32) → (Nat → Int32) → (Nat → Int32) → (Nat → Int32) → (Nat → Int32) → (Nat → Int32) → (Nat → Int32) → (Nat → Int32) → (Nat → Int32) → (Nat → Int32) → (Nat → Int32) → (Nat → Int32) → (Nat → Int32) → (Nat → Int32) → (Nat → Int32) → Prop} {v : Int32} {n : Nat} (h4 : a4 0 = 1) (h5 : ¬ a5 0 = 2) (hf : ∀ φ : Int32 → Prop, φ v → wpX_fitting φ (pc, 0, 0, rd, 0, 0, ch, rf, ct, fd, bs, bc, a1, a2, a3, a4, a5, a6, a7, a8, a9, a10, a11, a12, a13, a14, a15, a16, a17, a18) (a6 0) 1)
    (H : wX_prepare_29 post J 0 pc 0 0 rd 0 0 ch rf ct fd bs bc n 1 a1 a2 a3 a4 a5 a6 a7 a8 a9 a10 (upd a11 0 v) a12 a13 a14 a15 a16 a17 a18) : wX_prepare_29 post J 0 pc 0 0 rd 0 0 ch rf ct fd bs bc (n + 1) 0 a1 a2 a3 a4 a5 a6 a7 a8 a9 a10 a11 a12 a13 a14 a15 a16 a17 a18 := by
  have v10 : vp_in 0 10 := vz_0 (by decide) (by decide)
  have v20 : vp_in 0 20 := vz_0 (by decide) (by decide)
  refine ⟨v10, br_f (by rw [cz_0, h4]; decide) (nm_r (e' := 0) (by decide) ⟨pk_in 0 40 (by omega), ?_⟩)⟩
  rw [show ((2 : Int32) * 0).toNatClampNeg = 0 from by decide]
  refine hf _ ⟨v20, nm_e ⟨v20, br_f (by rw [cz_0]; exact h5) (nm_r (e' := 1) rfl ?_)⟩⟩
  rw [cz_0]
  exact H
/-- what the first package's need comes to -/
def pe_nt (frm b0 b1 : Bool) : Int32 := if frm = true then cl_nt b0 b1 else 0
theorem pp_1 {frm : Bool} (h1 : a1 0 = 0) (h4 : a4 0 = bo_i frm) (h5 : ¬ a5 0 = 2) (h7 : a7 0 = 0) (h11 : a11 0 = 0) :
    pq_ok 1 0 0 (bo_i frm) (pe_nt frm (ft_b (a6 0) 1 (a1 0) (a2 0) (a3 0)) false) (cl_e false 0 false) 1 0 a1 a2 a3 a4 a5 a6 a7 a8 a9 a10 a11 a12 a13 a14 := by
  refine ⟨fun z => ?_, ?_⟩
  · cases frm
    · exact h11
    · exact absurd z (by decide)
  intro post ch rf ct fd bs bc a15 a16 a17 a18 H
  have u10 : vp_in 0 10 := vz_0 (by decide) (by decide)
  have u5 : vp_in (a1 (0 : Int32).toNatClampNeg) 5 := by rw [cz_0, h1]; exact vz_0 (by decide) (by decide)
  refine br_t rfl (pe_l1 h1 (fun b13 b14 k13 k14 => ?_))
  have tail : ∀ b11 : Nat → Int32, b11 0 = pe_nt frm (ft_b (a6 0) 1 (a1 0) (a2 0) (a3 0)) false →
      wX_prepare_19 post 1 0 0 1 0 0 ch rf ct fd bs bc 1 1 a1 a2 a3 a4 a5 a6 a7 a8 a9 a10 b11 (upd a12 (0 : Int32).toNatClampNeg (b13 (a1 (0 : Int32).toNatClampNeg).toNatClampNeg &&& (((1 : Int32) <<< ((0 : Int32) &&& 31)) ^^^ (-1)))) b13 b14 a15 a16 a17 a18 := by
    intro b11 k11
    refine br_t (by decide) ⟨2, br_f (by decide) (pe_lc0 (c := 1) rfl (by omega) u10 (by rw [cz_0]; exact h7) (nm_r (e' := 1) rfl (br_t (by decide) ⟨1, br_t (by decide) (H _ _ _ _ ⟨?_, k11, ?_, k13, k14⟩)⟩)))⟩
    · intro i hi
      rw [show i = 0 by omega]
      exact h4
    · intro i hi
      rw [show i = 0 by omega, cz_0, pk_us, h1, cz_0, k13 0 (by omega)]
      decide
  refine ⟨2, br_f (by decide) ?_⟩
  cases frm
  · exact ⟨1, pe_29z u10 (by rw [cz_0, h4]; decide) u5 rfl (tail _ h11)⟩
  · exact ⟨2, pe_29o h4 h5 (fun φ hφ => ft_1 hφ) (pe_29z u10 (by rw [cz_0, h4]; decide) u5 rfl (tail _ pk_us))⟩
theorem pp_2 {frm cc : Bool} {k : Nat} (hk : k < 5) (h1 : a1 0 = 0) (h1' : a1 1 = nI k) (h2 : a2 0 = 5) (h4 : a4 0 = bo_i frm) (h4' : a4 1 = 0) (h5 : ¬ a5 0 = 2) (h7 : a7 0 = 0) (h7' : a7 1 = bo_i cc) (h11 : frm = false → a11 0 = 0) :
    pq_ok 2 k (bo_i (pe_w k (a2 1))) (bo_i frm) (pe_nt frm (ft_b (a6 0) 1 (a1 0) (a2 0) (a3 0)) (ft_b (a6 0) 1 (a1 1) (a2 1) (a3 1))) (cl_e true k (cc && ft_b (a8 2) 0 (a1 0) (a2 0) (a3 0))) 2 0 a1 a2 a3 a4 a5 a6 a7 a8 a9 a10 a11 a12 a13 a14 := by
  refine ⟨fun z => ?_, ?_⟩
  · cases frm
    · exact h11 rfl
    · exact absurd z (by decide)
  intro post ch rf ct fd bs bc a15 a16 a17 a18 H
  have u10 : vp_in 0 10 := vz_0 (by decide) (by decide)
  have v10 : vp_in 1 10 := vz_1 (by decide) (by decide)
  have u5 : vp_in (a1 (0 : Int32).toNatClampNeg) 5 := by rw [cz_0, h1]; exact vz_0 (by decide) (by decide)
  have v5 : vp_in (a1 (1 : Int32).toNatClampNeg) 5 := by rw [cz_1, h1']; exact vp_in_nI hk (by decide)
  refine br_t rfl (pe_l2 hk h1 h1' h2 (fun b13 b14 k13 k14 => ?_))
  have fin : ∀ b11 b12 : Nat → Int32, b11 0 = pe_nt frm (ft_b (a6 0) 1 (a1 0) (a2 0) (a3 0)) (ft_b (a6 0) 1 (a1 1) (a2 1) (a3 1)) →
      b12 0 = cl_12 (cl_e true k (cc && ft_b (a8 2) 0 (a1 0) (a2 0) (a3 0))) 0 → b12 1 = cl_12 (cl_e true k (cc && ft_b (a8 2) 0 (a1 0) (a2 0) (a3 0))) 1 →
      wX_prepare_135 post 1 2 2 0 0 1 0 0 ch rf ct fd bs bc a1 a2 a3 a4 a5 a6 a7 a8 a9 a10 b11 b12 b13 b14 a15 a16 a17 a18 := by
    intro b11 b12 k11 k0 k1
    refine br_t (by decide) ⟨1, br_t (by decide) (H _ _ _ _ ⟨?_, k11, ?_, k13, k14⟩)⟩
    · intro i hi
      by_cases e : i = 0
      · rw [e]; exact h4
      · rw [show i = 1 by omega]; exact h4'
    · intro i hi
      by_cases e : i = 0
      · rw [e]; exact k0
      · rw [show i = 1 by omega]; exact k1
  have tail : ∀ b11 : Nat → Int32, b11 0 = pe_nt frm (ft_b (a6 0) 1 (a1 0) (a2 0) (a3 0)) (ft_b (a6 0) 1 (a1 1) (a2 1) (a3 1)) →
      wX_prepare_19 post 2 0 0 1 0 0 ch rf ct fd bs bc 2 1 a1 a2 a3 a4 a5 a6 a7 a8 a9 a10 b11 (upd a12 (0 : Int32).toNatClampNeg (b13 (a1 (0 : Int32).toNatClampNeg).toNatClampNeg &&& (((1 : Int32) <<< ((0 : Int32) &&& 31)) ^^^ (-1)))) b13 b14 a15 a16 a17 a18 := by
    intro b11 k11
    refine br_f (by decide) ⟨1, pe_29z (p' := 2) v10 (by rw [cz_1, h4']; decide) v5 rfl ?_⟩
    refine br_t (by decide) ⟨3, br_f (by decide) (pe_lc0 (c := 2) rfl (by omega) u10 (by rw [cz_0]; exact h7) (nm_r (e' := 1) rfl (br_f (by decide) ?_)))⟩
    rw [cz_0, cz_1, h1, h1', cz_0, nI_clamp (show k < 2 ^ 31 by omega), k13 0 (by omega), k13 k hk, pe_e0 k hk, pe_e1 k hk]
    cases cc
    · refine pe_lc0 (c := 2) rfl (by omega) v10 (by rw [cz_1]; exact h7') (nm_r (e' := 2) rfl (fin _ _ k11 ?_ ?_))
      · rw [pk_un (by decide), pk_us]; rfl
      · rw [pk_us]; rfl
    · refine pe_lc1 h7' (fun b12 j0 j1 => nm_r (e' := 2) rfl (fin _ _ k11 ?_ ?_))
      · rw [j0, pk_un (by decide), pk_us]; exact pe_f0 k hk _
      · rw [j1, pk_us]; exact pe_f1 k hk _
  refine ⟨3, br_f (by decide) ?_⟩
  cases frm
  · exact ⟨1, pe_29z u10 (by rw [cz_0, h4]; decide) u5 rfl (tail _ (h11 rfl))⟩
  · exact ⟨2, pe_29o h4 h5 (fun φ hφ => ft_2 hφ) (pe_29z u10 (by rw [cz_0, h4]; decide) u5 rfl (tail _ pk_us))⟩
end
end
section
/-! The law's words over its five ints, in the order of its code; addPackage, need, clash. -/
def la_sec (x0 x1 : Int32) : Bool :=
  if x0 < 0 then false else if 4 < x0 then false else if x1 < 1 then false else if 9 < x1 then false else if x0 = 0 then (if x1 = 5 then false else true) else true
def la_frm (x2 x3 : Int32) : Bool :=
  if x2 < 0 then false else if 4 < x2 then false else if x3 < 1 then false else if 9 < x3 then false else true
def la_slf (frm : Bool) (x2 x3 : Int32) : Bool := if frm = true then (if x2 = 0 then (if 5 < x3 then false else true) else false) else false
def la_oth (frm sec : Bool) (x0 x1 x2 x3 : Int32) : Bool :=
  if frm = true then (if sec = true then (if x2 = x0 then (if x1 < x3 then false else true) else false) else false) else false
def la_nms (sec : Bool) (x0 : Int32) : Bool := if sec = true then (if x0 = 0 then false else true) else false
def la_fea (x4 : Int32) : Bool := if x4 < 0 then false else if 3 < x4 then false else true
theorem bo_t : ¬ bo_i true = 0 := by decide
section
variable {pc rd ch rf ct fd bs bc : Int32} {a1 a2 a3 a4 a5 a6 a7 a8 a9 a10 a11 a12 a13 a14 a15 a16 a17 a18 : Nat → Int32}
theorem ad_1 {post : Int32 → St2 → Prop} (H : post 0 (1, 0, 0, 0, 0, 0, ch, rf, ct, fd, bs, bc, upd a1 0 0, upd a2 0 5, upd a3 0 1, a4, a5, a6, a7, a8, a9, a10, a11, a12, a13, a14, a15, a16, a17, a18)) : wpX_addPackage post (0, 0, 0, rd, 0, 0, ch, rf, ct, fd, bs, bc, a1, a2, a3, a4, a5, a6, a7, a8, a9, a10, a11, a12, a13, a14, a15, a16, a17, a18) 0 5 1 := by
  have u10 : vp_in 0 10 := vz_0 (by decide) (by decide)
  refine br_t (by decide) (br_f (by decide) (br_f (by decide) (br_f (by decide) (br_f (by decide) (br_f (by decide) (br_t (by decide) ⟨1, br_t (by decide) ⟨u10, ?_⟩⟩))))))
  exact nm_r (e' := upd a1 0 0) (by rw [cz_0]; rfl) ⟨u10, nm_r (e' := upd a2 0 5) (by rw [cz_0]; rfl) ⟨u10, nm_r (e' := upd a3 0 1) (by rw [cz_0]; rfl) (nm_r (e' := 1) rfl H)⟩⟩
theorem ad_2 {post : Int32 → St2 → Prop} {x0 x1 : Int32} (h1 : a1 0 = 0) (h2 : a2 0 = 5)
    (Hs : la_sec x0 x1 = true → post 1 (2, 0, 0, 0, 0, 0, ch, rf, ct, fd, bs, bc, upd a1 1 x0.toInt8.toInt32, upd a2 1 x1.toInt8.toInt32, upd a3 1 2, a4, a5, a6, a7, a8, a9, a10, a11, a12, a13, a14, a15, a16, a17, a18)) (Hn : la_sec x0 x1 = false → post (-1) (1, 0, 0, rd, 0, 0, ch, rf, ct, fd, bs, bc, a1, a2, a3, a4, a5, a6, a7, a8, a9, a10, a11, a12, a13, a14, a15, a16, a17, a18)) :
    wpX_addPackage post (1, 0, 0, rd, 0, 0, ch, rf, ct, fd, bs, bc, a1, a2, a3, a4, a5, a6, a7, a8, a9, a10, a11, a12, a13, a14, a15, a16, a17, a18) x0 x1 2 := by
  have u10 : vp_in 0 10 := vz_0 (by decide) (by decide)
  have v10 : vp_in 1 10 := vz_1 (by decide) (by decide)
  unfold la_sec at Hs Hn
  refine br_t (by decide) ?_
  by_cases g1 : x0 < 0
  · rw [if_pos g1] at Hn
    exact br_t g1 (Hn rfl)
  rw [if_neg g1] at Hn Hs
  refine br_f g1 ?_
  by_cases g2 : 4 < x0
  · rw [if_pos g2] at Hn
    exact br_t g2 (Hn rfl)
  rw [if_neg g2] at Hn Hs
  refine br_f g2 ?_
  by_cases g3 : x1 < 1
  · rw [if_pos g3] at Hn
    exact br_t g3 (Hn rfl)
  rw [if_neg g3] at Hn Hs
  refine br_f g3 ?_
  by_cases g4 : 9 < x1
  · rw [if_pos g4] at Hn
    exact br_t g4 (Hn rfl)
  rw [if_neg g4] at Hn Hs
  refine br_f g4 (br_f (by decide) (br_t (by decide) ?_))
  have last : (∀ (n : Nat), post 1 (2, 0, 0, 0, 0, 0, ch, rf, ct, fd, bs, bc, upd a1 1 x0.toInt8.toInt32, upd a2 1 x1.toInt8.toInt32, upd a3 1 2, a4, a5, a6, a7, a8, a9, a10, a11, a12, a13, a14, a15, a16, a17, a18) → wX_addPackage_47 post x0 x1 2 1 0 0 rd 0 0 ch rf ct fd bs bc a1 a2 a3 a4 a5 a6 a7 a8 a9 a10 a11 a12 a13 a14 a15 a16 a17 a18 (n + 1) 1) := by
    intro n hp
    refine br_t (by decide) ⟨v10, ?_⟩
    exact nm_r (e' := upd a1 1 x0.toInt8.toInt32) (by rw [cz_1]) ⟨v10, nm_r (e' := upd a2 1 x1.toInt8.toInt32) (by rw [cz_1]) ⟨v10, nm_r (e' := upd a3 1 2) (by rw [cz_1]; rfl) (nm_r (e' := 2) rfl hp)⟩⟩
  refine ⟨2, br_f (by decide) ⟨u10, ?_⟩⟩
  rw [cz_0, h1, h2]
  by_cases g5 : x0 = 0
  · rw [if_pos g5] at Hn Hs
    refine br_t g5.symm ⟨u10, ?_⟩
    by_cases g6 : x1 = 5
    · rw [if_pos g6] at Hn
      exact br_t g6.symm (Hn rfl)
    · rw [if_neg g6] at Hs
      exact br_f (fun z => g6 z.symm) (nm_r (e' := 1) rfl (last 0 (Hs rfl)))
  · rw [if_neg g5] at Hs
    exact br_f (fun z => g5 z.symm) (nm_r (e' := 1) rfl (last 0 (Hs rfl)))
theorem ne_1 {post : Int32 → St2 → Prop} {x2 x3 : Int32} (hpc : ¬ pc ≤ 0) (h4 : a4 0 = 0)
    (Hs : la_frm x2 x3 = true → post 1 (pc, 0, 0, 0, 0, 0, ch, rf, ct, fd, bs, bc, a1, a2, a3, upd a4 0 1, upd a5 0 1, upd a6 0 (((10 * x2) + x3).toInt8.toInt32), a7, a8, a9, a10, a11, a12, a13, a14, a15, a16, a17, a18)) (Hn : la_frm x2 x3 = false → post (-1) (pc, 0, 0, rd, 0, 0, ch, rf, ct, fd, bs, bc, a1, a2, a3, a4, a5, a6, a7, a8, a9, a10, a11, a12, a13, a14, a15, a16, a17, a18)) :
    wpX_need post (pc, 0, 0, rd, 0, 0, ch, rf, ct, fd, bs, bc, a1, a2, a3, a4, a5, a6, a7, a8, a9, a10, a11, a12, a13, a14, a15, a16, a17, a18) 0 0 x2 x3 := by
  have u10 : vp_in 0 10 := vz_0 (by decide) (by decide)
  have u20 : vp_in 0 20 := vz_0 (by decide) (by decide)
  have u40 : vp_in ((2 : Int32) * 0) 40 := pk_in 0 40 (by omega)
  unfold la_frm at Hs Hn
  refine br_f (by decide) (br_f hpc (br_f (by decide) (br_t rfl ?_)))
  by_cases g1 : x2 < 0
  · rw [if_pos g1] at Hn
    exact br_t g1 (br_t rfl (Hn rfl))
  rw [if_neg g1] at Hn Hs
  refine br_f g1 ?_
  by_cases g2 : 4 < x2
  · rw [if_pos g2] at Hn
    exact br_t g2 (br_t rfl (Hn rfl))
  rw [if_neg g2] at Hn Hs
  refine br_f g2 ?_
  by_cases g3 : x3 < 1
  · rw [if_pos g3] at Hn
    exact br_t g3 (br_t rfl (Hn rfl))
  rw [if_neg g3] at Hn Hs
  refine br_f g3 ?_
  by_cases g4 : 9 < x3
  · rw [if_pos g4] at Hn
    exact br_t g4 (br_t rfl (Hn rfl))
  rw [if_neg g4] at Hs
  refine br_f g4 (br_f (by decide) ⟨u10, br_t (by rw [cz_0, h4]; decide) ⟨u10, nm_r (e' := 0) (by rw [cz_0, h4]; decide) ⟨u20, nm_r (e' := upd a5 0 1) (by rw [cz_0]) (br_t rfl ?_)⟩⟩⟩)
  refine ⟨u40, nm_r (e' := upd a6 0 (((10 * x2) + x3).toInt8.toInt32)) (by rw [show ((2 : Int32) * 0).toNatClampNeg = 0 from by decide, pk_vb]) ⟨u10, u10, nm_r (e' := upd a4 0 1) (by rw [cz_0, h4]; rfl) ⟨u10, ?_⟩⟩⟩
  rw [cz_0, pk_us]
  exact Hs rfl
theorem cs_1 {post : Int32 → St2 → Prop} {x4 : Int32} (Hn : post (-1) (1, 0, 0, rd, 0, 0, ch, rf, ct, fd, bs, bc, a1, a2, a3, a4, a5, a6, a7, a8, a9, a10, a11, a12, a13, a14, a15, a16, a17, a18)) : wpX_clash post (1, 0, 0, rd, 0, 0, ch, rf, ct, fd, bs, bc, a1, a2, a3, a4, a5, a6, a7, a8, a9, a10, a11, a12, a13, a14, a15, a16, a17, a18) 1 1 x4 0 :=
  br_f (by decide) (br_t (by decide) (br_t rfl Hn))
theorem cs_2 {post : Int32 → St2 → Prop} {x4 : Int32} (h7 : a7 1 = 0)
    (Hs : la_fea x4 = true → post 1 (2, 0, 0, 0, 0, 0, ch, rf, ct, fd, bs, bc, a1, a2, a3, a4, a5, a6, upd a7 1 1, upd a8 2 ((50 + x4).toInt8.toInt32), a9, a10, a11, a12, a13, a14, a15, a16, a17, a18)) (Hn : la_fea x4 = false → post (-1) (2, 0, 0, rd, 0, 0, ch, rf, ct, fd, bs, bc, a1, a2, a3, a4, a5, a6, a7, a8, a9, a10, a11, a12, a13, a14, a15, a16, a17, a18)) :
    wpX_clash post (2, 0, 0, rd, 0, 0, ch, rf, ct, fd, bs, bc, a1, a2, a3, a4, a5, a6, a7, a8, a9, a10, a11, a12, a13, a14, a15, a16, a17, a18) 1 1 x4 0 := by
  have v10 : vp_in 1 10 := vz_1 (by decide) (by decide)
  unfold la_fea at Hs Hn
  refine br_f (by decide) (br_f (by decide) (br_f (by decide) (br_f (by decide) ?_)))
  by_cases g1 : x4 < 0
  · rw [if_pos g1] at Hn
    exact br_t g1 (br_t rfl (Hn rfl))
  rw [if_neg g1] at Hn Hs
  refine br_f g1 ?_
  by_cases g2 : 3 < x4
  · rw [if_pos g2] at Hn
    exact br_t g2 (br_t rfl (Hn rfl))
  rw [if_neg g2] at Hs
  refine br_f g2 (br_f (by decide) ⟨v10, br_t (by rw [cz_1, h7]; decide) ⟨v10, br_f (by decide) ?_⟩⟩)
  refine ⟨by rw [cz_1, h7]; exact pk_in 2 20 (by omega), nm_r (e' := upd a8 2 ((50 + x4).toInt8.toInt32)) (by rw [cz_1, h7, show (((2 : Int32) * 1) + 0).toNatClampNeg = 2 from by decide, pk_vb]) ⟨v10, v10, nm_r (e' := upd a7 1 1) (by rw [cz_1, h7]; rfl) ⟨v10, ?_⟩⟩⟩
  rw [cz_1, pk_us]
  exact Hs rfl
end
end
section
/-! The law's chain behind the first three calls. -/
theorem la_s1 {A B : Prop} {frm slf : Bool} (hA : cl_r1 frm slf = true → A) (hB : cl_r1 frm slf = false → B) :
    (bo_i frm = 0 → A) ∧ (¬ bo_i frm = 0 → (((bo_i slf = 0 → B) ∧ (¬ bo_i slf = 0 → A)))) := by
  cases frm
  · exact br_t rfl (hA rfl)
  · cases slf
    · exact br_f bo_t (br_t rfl (hB rfl))
    · exact br_f bo_t (br_f bo_t (hA rfl))
theorem la_s3 {A B : Prop} {nms frm slf oth : Bool} (hA : (nms && (!frm || slf || oth)) = true → A) (hB : (nms && (!frm || slf || oth)) = false → B) :
    (bo_i nms = 0 → B) ∧ (¬ bo_i nms = 0 → (((bo_i frm = 0 → A) ∧ (¬ bo_i frm = 0 → (((bo_i slf = 0 → (((bo_i oth = 0 → B) ∧ (¬ bo_i oth = 0 → A)))) ∧ (¬ bo_i slf = 0 → A))))))) := by
  cases nms
  · exact br_t rfl (hB rfl)
  · cases frm
    · exact br_f bo_t (br_t rfl (hA rfl))
    · cases slf
      · cases oth
        · exact br_f bo_t (br_f bo_t (br_t rfl (br_t rfl (hB rfl))))
        · exact br_f bo_t (br_f bo_t (br_t rfl (br_f bo_t (hA rfl))))
      · exact br_f bo_t (br_f bo_t (br_f bo_t (hA rfl)))
theorem ck_ex {sec : Bool} {k : Nat} {w : Int32} {frm slf oth t : Bool} (h : ck_all sec k w frm slf oth t = true) :
    mr_right (cl_pc sec) 1 (cl_c sec) (cl_4 (bo_i frm)) (cl_11 (cl_nt slf oth)) (cl_12 (cl_e sec k false)) = some (bo_i (cl_r1 frm slf)) ∧
    mr_right (cl_pc sec) 3 (cl_c sec) (cl_4 (bo_i frm)) (cl_11 (cl_nt slf oth)) (cl_12 (cl_e sec k false)) = some (bo_i (cl_r3 sec k frm slf oth)) ∧
    mr_right (cl_pc sec) 2 (cl_c sec) (cl_4 (bo_i frm)) (cl_11 (cl_nt slf oth)) (cl_12 (cl_e sec k t)) = some (bo_i sec) ∧
    mr_right (cl_pc sec) 3 (cl_c sec) (cl_4 (bo_i frm)) (cl_11 (cl_nt slf oth)) (cl_12 (cl_e sec k t)) = some (bo_i (cl_r3 sec k frm slf oth && !t)) ∧
    ∃ (ch rf fd bs bc : Int32) (f15 f16 f17 f18 : Nat → Int32),
      ms_search (cl_pc sec) 1 (cl_c sec) (cl_4 (bo_i frm)) (cl_11 (cl_nt slf oth)) (cl_12 (cl_e sec k false)) (cl_13 (cl_c sec) k) (cl_14 (cl_c sec) k w) (fun _ => 0) (fun _ => 0) (fun _ => 0) (fun _ => 0) = some (ch, rf, fd, bs, bc, f15, f16, f17, f18) ∧
      fd = ((1 + bo_i (cl_r1 frm slf)) + bo_i sec) + bo_i (cl_r3 sec k frm slf oth) ∧
      ∃ (ch' rf' fd' bc' : Int32) (g15 g16 g17 g18 : Nat → Int32),
        ms_search (cl_pc sec) 0 (cl_c sec) (cl_4 (bo_i frm)) (cl_11 (cl_nt slf oth)) (cl_12 (cl_e sec k t)) (cl_13 (cl_c sec) k) (cl_14 (cl_c sec) k w) f15 f16 f17 f18 = some (ch', rf', fd', 0, bc', g15, g16, g17, g18) := by
  unfold ck_all at h
  rcases e1 : mr_right (cl_pc sec) 1 (cl_c sec) (cl_4 (bo_i frm)) (cl_11 (cl_nt slf oth)) (cl_12 (cl_e sec k false)) with _ | r1
  · rw [e1] at h; cases h
  rcases e3 : mr_right (cl_pc sec) 3 (cl_c sec) (cl_4 (bo_i frm)) (cl_11 (cl_nt slf oth)) (cl_12 (cl_e sec k false)) with _ | r3
  · rw [e1, e3] at h; cases h
  rcases es : ms_search (cl_pc sec) 1 (cl_c sec) (cl_4 (bo_i frm)) (cl_11 (cl_nt slf oth)) (cl_12 (cl_e sec k false)) (cl_13 (cl_c sec) k) (cl_14 (cl_c sec) k w) (fun _ => 0) (fun _ => 0) (fun _ => 0) (fun _ => 0) with _ | ⟨ch, rf, fd, bs, bc, f15, f16, f17, f18⟩
  · rw [e1, e3, es] at h; cases h
  rcases e2 : mr_right (cl_pc sec) 2 (cl_c sec) (cl_4 (bo_i frm)) (cl_11 (cl_nt slf oth)) (cl_12 (cl_e sec k t)) with _ | q2
  · rw [e1, e3, es, e2] at h; cases h
  rcases e4 : mr_right (cl_pc sec) 3 (cl_c sec) (cl_4 (bo_i frm)) (cl_11 (cl_nt slf oth)) (cl_12 (cl_e sec k t)) with _ | q3
  · rw [e1, e3, es, e2, e4] at h; cases h
  rw [e1, e3, es, e2, e4] at h
  dsimp only at h
  rw [Bool.and_eq_true, Bool.and_eq_true, Bool.and_eq_true, Bool.and_eq_true, Bool.and_eq_true, decide_eq_true_eq, decide_eq_true_eq, decide_eq_true_eq, decide_eq_true_eq, decide_eq_true_eq] at h
  obtain ⟨⟨⟨⟨⟨h1, h2⟩, h3⟩, h4⟩, h5⟩, h6⟩ := h
  rcases eb : ms_search (cl_pc sec) 0 (cl_c sec) (cl_4 (bo_i frm)) (cl_11 (cl_nt slf oth)) (cl_12 (cl_e sec k t)) (cl_13 (cl_c sec) k) (cl_14 (cl_c sec) k w) f15 f16 f17 f18 with _ | ⟨ch', rf', fd', bs', bc', g15, g16, g17, g18⟩
  · rw [eb] at h6; cases h6
  rw [eb] at h6
  dsimp only at h6
  rw [decide_eq_true_eq] at h6
  subst h1 h2 h4 h5 h6
  exact ⟨rfl, rfl, rfl, rfl, ch, rf, fd, bs, bc, f15, f16, f17, f18, rfl, h3, ch', rf', fd', bc', g15, g16, g17, g18, eb⟩
section
variable {pc rd ch rf ct fd bs bc : Int32} {a1 a2 a3 a4 a5 a6 a7 a8 a9 a10 a11 a12 a13 a14 a15 a16 a17 a18 : Nat → Int32} {c k mc ms kc ks : Nat} {w nc nt : Int32} {e : Bool} {post : Int32 → St0 → Prop}
theorem lb_436 {z ch' rf' fd' bc' : Int32} {b15 b16 b17 b18 : Nat → Int32} (hc : c ≤ 10) (hq : pq_ok c k w nc nt e pc rd a1 a2 a3 a4 a5 a6 a7 a8 a9 a10 a11 a12 a13 a14)
    (h : ms_search pc 0 c (cl_4 nc) (cl_11 nt) (cl_12 e) (cl_13 c k) (cl_14 c k w) a15 a16 a17 a18 = some (ch', rf', fd', 0, bc', b15, b16, b17, b18)) (hp : post 1 ()) : wL_lawOf_436 post mc ms z z kc ks pc 0 0 rd 0 0 ch rf ct fd bs bc a1 a2 a3 a4 a5 a6 a7 a8 a9 a10 a11 a12 a13 a14 a15 a16 a17 a18 := by
  refine br_t rfl ?_
  unfold wpX_best
  dsimp only
  exact rg_search hc hq rfl rfl h (fun _ _ _ _ _ _ => br_t rfl hp)
theorem lb_385 {x5 ch' rf' fd' bc' : Int32} {b15 b16 b17 b18 : Nat → Int32} {nms frm slf oth t : Bool} (hc : c ≤ 10) (hq : pq_ok c k w nc nt e pc rd a1 a2 a3 a4 a5 a6 a7 a8 a9 a10 a11 a12 a13 a14)
    (h2 : mr_right pc 2 c (cl_4 nc) (cl_11 nt) (cl_12 e) = some x5)
    (h3 : mr_right pc 3 c (cl_4 nc) (cl_11 nt) (cl_12 e) = some (bo_i ((nms && (!frm || slf || oth)) && !t)))
    (hs : ms_search pc 0 c (cl_4 nc) (cl_11 nt) (cl_12 e) (cl_13 c k) (cl_14 c k w) a15 a16 a17 a18 = some (ch', rf', fd', 0, bc', b15, b16, b17, b18)) (hp : post 1 ()) :
    wL_lawOf_385 post mc ms x5 (bo_i frm) (bo_i slf) (bo_i oth) (bo_i nms) (bo_i t) kc ks pc 0 0 rd 0 0 ch rf ct fd bs bc a1 a2 a3 a4 a5 a6 a7 a8 a9 a10 a11 a12 a13 a14 a15 a16 a17 a18 := by
  refine rg_right hc hq h2 (fun rd1 b11 b12 b13 b14 hq1 => br_t rfl (rg_right hc hq1 h3 (fun rd2 c11 c12 c13 c14 hq2 => la_s3 (fun y => ?_) (fun y => ?_))))
  · rw [y]
    cases t
    · exact br_t rfl (lb_436 hc hq2 hs hp)
    · exact br_f bo_t (lb_436 hc hq2 hs hp)
  · rw [y]
    exact lb_436 hc hq2 hs hp
theorem lb_365 {x4 x6 x7 x8 x9 z : Int32} {sec : Bool} (H : wL_lawOf_385 post mc ms (bo_i sec) x6 x7 x8 x9 (bo_i (sec && decide (x4 = 0))) kc ks pc 0 0 rd 0 0 ch rf ct fd bs bc a1 a2 a3 a4 a5 a6 a7 a8 a9 a10 a11 a12 a13 a14 a15 a16 a17 a18) : wL_lawOf_365 post mc ms x4 (bo_i sec) x6 x7 x8 x9 z z kc ks pc 0 0 rd 0 0 ch rf ct fd bs bc a1 a2 a3 a4 a5 a6 a7 a8 a9 a10 a11 a12 a13 a14 a15 a16 a17 a18 := by
  refine br_t rfl ?_
  cases sec
  · exact br_t rfl H
  · refine br_f bo_t ?_
    by_cases g : x4 = 0
    · rw [decide_eq_true g] at H
      exact br_t g H
    · rw [decide_eq_false g] at H
      exact br_f g H
theorem lb_316 {x4 x5 x6 x7 x8 x9 z0 z1 z2 : Int32} (hz : z2 = z1 + z0) (H : wL_lawOf_338 post mc ms x4 x5 x6 x7 x8 x9 (bo_i (la_fea x4)) kc ks pc 0 0 rd 0 0 ch rf ct fd bs bc a1 a2 a3 a4 a5 a6 a7 a8 a9 a10 a11 a12 a13 a14 a15 a16 a17 a18) : wL_lawOf_316 post mc ms x4 x5 x6 x7 x8 x9 z0 z1 z2 kc ks pc 0 0 rd 0 0 ch rf ct fd bs bc a1 a2 a3 a4 a5 a6 a7 a8 a9 a10 a11 a12 a13 a14 a15 a16 a17 a18 := by
  refine br_t hz ?_
  unfold la_fea at H
  by_cases g1 : x4 < 0
  · rw [if_pos g1] at H
    exact br_t g1 H
  · rw [if_neg g1] at H
    refine br_f g1 ?_
    by_cases g2 : 3 < x4
    · rw [if_pos g2] at H
      exact br_t g2 H
    · rw [if_neg g2] at H
      exact br_f g2 H
theorem lb_279 {x4 q f : Int32} {sec nms frm slf oth : Bool} (hf : f = ((1 + q) + bo_i sec) + bo_i (nms && (!frm || slf || oth)))
    (H : wL_lawOf_338 post mc ms x4 (bo_i sec) (bo_i frm) (bo_i slf) (bo_i oth) (bo_i nms) (bo_i (la_fea x4)) kc ks pc 0 0 rd 0 0 ch rf ct fd bs bc a1 a2 a3 a4 a5 a6 a7 a8 a9 a10 a11 a12 a13 a14 a15 a16 a17 a18) :
    wL_lawOf_279 post mc ms x4 (bo_i sec) (bo_i frm) (bo_i slf) (bo_i oth) (bo_i nms) q 1 f kc ks pc 0 0 rd 0 0 ch rf ct fd bs bc a1 a2 a3 a4 a5 a6 a7 a8 a9 a10 a11 a12 a13 a14 a15 a16 a17 a18 := by
  have key : ∀ s : Int32, s = bo_i sec → wL_lawOf_290 post mc ms x4 (bo_i sec) (bo_i frm) (bo_i slf) (bo_i oth) (bo_i nms) s (1 + q) f kc ks pc 0 0 rd 0 0 ch rf ct fd bs bc a1 a2 a3 a4 a5 a6 a7 a8 a9 a10 a11 a12 a13 a14 a15 a16 a17 a18 := by
    intro s hs
    exact la_s3 (fun y => lb_316 (by rw [hf, y, hs]; rfl) H) (fun y => lb_316 (by rw [hf, y, hs]; rfl) H)
  cases sec
  · exact br_t rfl (key 0 rfl)
  · exact br_f bo_t (key 1 rfl)
theorem lb_253 {x4 z ch' rf' fd' bs' bc' : Int32} {b15 b16 b17 b18 : Nat → Int32} {sec nms frm slf oth : Bool} (hc : c ≤ 10) (hq : pq_ok c k w nc nt e pc rd a1 a2 a3 a4 a5 a6 a7 a8 a9 a10 a11 a12 a13 a14)
    (hs : ms_search pc 1 c (cl_4 nc) (cl_11 nt) (cl_12 e) (cl_13 c k) (cl_14 c k w) a15 a16 a17 a18 = some (ch', rf', fd', bs', bc', b15, b16, b17, b18))
    (hf : fd' = ((1 + bo_i (cl_r1 frm slf)) + bo_i sec) + bo_i (nms && (!frm || slf || oth)))
    (H : ∀ (rd' : Int32) (b11 b12 b13 b14 : Nat → Int32), pq_ok c k w nc nt e pc rd' a1 a2 a3 a4 a5 a6 a7 a8 a9 a10 b11 b12 b13 b14 →
      wL_lawOf_338 post mc ms x4 (bo_i sec) (bo_i frm) (bo_i slf) (bo_i oth) (bo_i nms) (bo_i (la_fea x4)) kc ks pc 0 0 rd' 0 0 ch' rf' 1 fd' bs' bc' a1 a2 a3 a4 a5 a6 a7 a8 a9 a10 b11 b12 b13 b14 b15 b16 b17 b18) :
    wL_lawOf_253 post mc ms x4 (bo_i sec) (bo_i frm) (bo_i slf) (bo_i oth) (bo_i nms) z z kc ks pc 0 0 rd 0 0 ch rf ct fd bs bc a1 a2 a3 a4 a5 a6 a7 a8 a9 a10 a11 a12 a13 a14 a15 a16 a17 a18 := by
  refine br_t rfl ?_
  unfold wpX_rightSets
  dsimp only
  refine rg_search hc hq rfl rfl hs (fun rd1 b11 b12 b13 b14 hq1 => ?_)
  exact la_s1 (fun y => lb_279 (by rw [hf, y]; rfl) (H _ _ _ _ _ hq1)) (fun y => lb_279 (by rw [hf, y]; rfl) (H _ _ _ _ _ hq1))
theorem lb_191 {x4 z ch' rf' fd' bs' bc' : Int32} {b15 b16 b17 b18 : Nat → Int32} {sec nms frm slf oth : Bool} (hc : c ≤ 10) (hq : pq_ok c k w nc nt e pc rd a1 a2 a3 a4 a5 a6 a7 a8 a9 a10 a11 a12 a13 a14)
    (h1 : mr_right pc 1 c (cl_4 nc) (cl_11 nt) (cl_12 e) = some (bo_i (cl_r1 frm slf)))
    (h3 : mr_right pc 3 c (cl_4 nc) (cl_11 nt) (cl_12 e) = some (bo_i (nms && (!frm || slf || oth))))
    (hs : ms_search pc 1 c (cl_4 nc) (cl_11 nt) (cl_12 e) (cl_13 c k) (cl_14 c k w) a15 a16 a17 a18 = some (ch', rf', fd', bs', bc', b15, b16, b17, b18))
    (hf : fd' = ((1 + bo_i (cl_r1 frm slf)) + bo_i sec) + bo_i (nms && (!frm || slf || oth)))
    (H : ∀ (rd' : Int32) (b11 b12 b13 b14 : Nat → Int32), pq_ok c k w nc nt e pc rd' a1 a2 a3 a4 a5 a6 a7 a8 a9 a10 b11 b12 b13 b14 →
      wL_lawOf_338 post mc ms x4 (bo_i sec) (bo_i frm) (bo_i slf) (bo_i oth) (bo_i nms) (bo_i (la_fea x4)) kc ks pc 0 0 rd' 0 0 ch' rf' 1 fd' bs' bc' a1 a2 a3 a4 a5 a6 a7 a8 a9 a10 b11 b12 b13 b14 b15 b16 b17 b18) :
    wL_lawOf_191 post mc ms x4 (bo_i sec) (bo_i frm) (bo_i slf) (bo_i oth) (bo_i nms) z z kc ks pc 0 0 rd 0 0 ch rf ct fd bs bc a1 a2 a3 a4 a5 a6 a7 a8 a9 a10 a11 a12 a13 a14 a15 a16 a17 a18 := by
  refine br_t rfl ?_
  have k217 : ∀ (v rd' : Int32) (b11 b12 b13 b14 : Nat → Int32), pq_ok c k w nc nt e pc rd' a1 a2 a3 a4 a5 a6 a7 a8 a9 a10 b11 b12 b13 b14 →
      wL_lawOf_217 post mc ms x4 (bo_i sec) (bo_i frm) (bo_i slf) (bo_i oth) (bo_i nms) v v kc ks pc 0 0 rd' 0 0 ch rf ct fd bs bc a1 a2 a3 a4 a5 a6 a7 a8 a9 a10 b11 b12 b13 b14 a15 a16 a17 a18 := by
    intro v rd' b11 b12 b13 b14 hq1
    refine br_t rfl (rg_right hc hq1 h3 (fun rd2 c11 c12 c13 c14 hq2 => la_s3 (fun y => ?_) (fun y => ?_)))
    · rw [y]
      exact lb_253 hc hq2 hs hf H
    · rw [y]
      exact lb_253 hc hq2 hs hf H
  refine rg_right hc hq h1 (fun rd1 b11 b12 b13 b14 hq1 => la_s1 (fun y => ?_) (fun y => ?_))
  · rw [y]
    exact k217 1 _ _ _ _ _ hq1
  · rw [y]
    exact k217 0 _ _ _ _ _ hq1
end
end
section
/-! The plain ints: names, versions, patterns. -/
theorem fx_le {x M : Int32} (h : ¬ M < x) : x ≤ M := Int32.not_lt.mp h
theorem fx_lt1 {x : Int32} (h : ¬ x < 1) : ¬ x < 0 := by
  intro z
  apply h
  rw [Int32.lt_iff_toInt_lt] at z ⊢
  have e0 : (0 : Int32).toInt = 0 := by decide
  have e1 : (1 : Int32).toInt = 1 := by decide
  rw [e0] at z
  rw [e1]
  omega
theorem fx_sec {x0 x1 : Int32} (h : la_sec x0 x1 = true) : ∃ k v : Nat, k < 5 ∧ v < 10 ∧ x0 = nI k ∧ x1 = nI v := by
  unfold la_sec at h
  by_cases g1 : x0 < 0
  · rw [if_pos g1] at h; cases h
  rw [if_neg g1] at h
  by_cases g2 : 4 < x0
  · rw [if_pos g2] at h; cases h
  rw [if_neg g2] at h
  by_cases g3 : x1 < 1
  · rw [if_pos g3] at h; cases h
  rw [if_neg g3] at h
  by_cases g4 : 9 < x1
  · rw [if_pos g4] at h; cases h
  obtain ⟨k, hk, ek⟩ := nI_of2 (n := 4) (M := 4) (by decide) g1 (fx_le g2)
  obtain ⟨v, hv, ev⟩ := nI_of2 (n := 9) (M := 9) (by decide) (fx_lt1 g3) (fx_le g4)
  exact ⟨k, v, by omega, by omega, ek, ev⟩
theorem fx_frm {x2 x3 : Int32} (h : la_frm x2 x3 = true) : ∃ i b : Nat, i < 5 ∧ b < 10 ∧ x2 = nI i ∧ x3 = nI b := by
  unfold la_frm at h
  by_cases g1 : x2 < 0
  · rw [if_pos g1] at h; cases h
  rw [if_neg g1] at h
  by_cases g2 : 4 < x2
  · rw [if_pos g2] at h; cases h
  rw [if_neg g2] at h
  by_cases g3 : x3 < 1
  · rw [if_pos g3] at h; cases h
  rw [if_neg g3] at h
  by_cases g4 : 9 < x3
  · rw [if_pos g4] at h; cases h
  obtain ⟨k, hk, ek⟩ := nI_of2 (n := 4) (M := 4) (by decide) g1 (fx_le g2)
  obtain ⟨v, hv, ev⟩ := nI_of2 (n := 9) (M := 9) (by decide) (fx_lt1 g3) (fx_le g4)
  exact ⟨k, v, by omega, by omega, ek, ev⟩
theorem fx_pat : ∀ i, i < 5 → ∀ b, b < 10 → (((10 * nI i) + nI b).toInt8.toInt32 < 50) ∧ (((10 * nI i) + nI b).toInt8.toInt32 / 10 = nI i) ∧ (((10 * nI i) + nI b).toInt8.toInt32 - ((10 * nI i) + nI b).toInt8.toInt32 / 10 * 10 = nI b) := by decide +kernel
theorem fx_b {x2 x3 nm ver fe : Int32} (h : la_frm x2 x3 = true) : ft_b (((10 * x2) + x3).toInt8.toInt32) 1 nm ver fe = (if x2 = nm then (if ver < x3 then false else true) else false) := by
  obtain ⟨i, b, hi, hb, rfl, rfl⟩ := fx_frm h
  obtain ⟨p1, p2, p3⟩ := fx_pat i hi b hb
  unfold ft_b
  rw [if_pos p1, p3, p2]
  by_cases g : nI i = nm
  · rw [if_pos g, if_pos g.symm, if_neg (by decide)]
    by_cases g2 : ver < nI b
    · rw [if_pos g2, decide_eq_true g2]; rfl
    · rw [if_neg g2, decide_eq_false g2]; rfl
  · rw [if_neg g, if_neg (fun z => g z.symm)]
theorem fx_cl : ∀ j, j < 4 → ft_b ((50 + nI j).toInt8.toInt32) 0 0 5 1 = decide (nI j = 0) := by decide +kernel
theorem fx_c {x4 : Int32} (h : la_fea x4 = true) : ft_b ((50 + x4).toInt8.toInt32) 0 0 5 1 = decide (x4 = 0) := by
  unfold la_fea at h
  by_cases g1 : x4 < 0
  · rw [if_pos g1] at h; cases h
  rw [if_neg g1] at h
  by_cases g2 : 3 < x4
  · rw [if_pos g2] at h; cases h
  obtain ⟨j, hj, rfl⟩ := nI_of2 (n := 3) (M := 3) (by decide) g1 (fx_le g2)
  exact fx_cl j (by omega)
theorem fx_c0 {x4 : Int32} (h : la_fea x4 = false) : decide (x4 = 0) = false := by
  by_cases g : x4 = 0
  · rw [g] at h; exact absurd h (by decide)
  · exact decide_eq_false g
theorem fx_by : ∀ k, k < 10 → (nI k).toInt8.toInt32 = nI k := by decide +kernel
theorem fx_nm : ∀ k, k < 5 → la_nms true (nI k) = (true && !decide (k = 0)) := by decide +kernel
end
section
/-! The law whole. -/
section
variable {pc rd ch rf ct fd bs bc : Int32} {a1 a2 a3 a4 a5 a6 a7 a8 a9 a10 a11 a12 a13 a14 a15 a16 a17 a18 : Nat → Int32} {mc ms kc ks : Nat} {post : Int32 → St0 → Prop}
/-- behind 'need', one package -/
theorem lm_1 {x4 z : Int32} {frm slf : Bool} (h1 : a1 0 = 0) (h4 : a4 0 = bo_i frm) (h5 : ¬ a5 0 = 2)
    (hnt : pe_nt frm (ft_b (a6 0) 1 (a1 0) (a2 0) (a3 0)) false = cl_nt slf false) (hin : ck_in false frm slf false false = true) (hp : post 1 ()) :
    wL_lawOf_191 post mc ms x4 (bo_i false) (bo_i frm) (bo_i slf) (bo_i false) (bo_i false) z z kc ks 1 0 0 0 0 0 ch rf ct fd bs bc a1 a2 a3 a4 a5 a6 (fun _ => 0) a8 a9 a10 (fun _ => 0) a12 a13 a14 (fun _ => 0) (fun _ => 0) (fun _ => 0) (fun _ => 0) := by
  obtain ⟨r1, r3, q2, q3, ch1, rf1, fd1, bs1, bc1, f15, f16, f17, f18, es, hf, ch2, rf2, fd2, bc2, g15, g16, g17, g18, eb⟩ := ck_ex (ck_1 frm slf false false hin)
  have hq : pq_ok 1 0 0 (bo_i frm) (cl_nt slf false) (cl_e false 0 false) 1 0 a1 a2 a3 a4 a5 a6 (fun _ => 0) a8 a9 a10 (fun _ => 0) a12 a13 a14 := by
    rw [← hnt]
    exact pp_1 h1 h4 h5 rfl rfl
  exact lb_191 (sec := false) (nms := false) (c := 1) (by omega) hq r1 r3 es hf (fun rd' b11 b12 b13 b14 hq' =>
    cs_1 (br_t rfl (lb_365 (sec := false) (lb_385 (t := false) (by omega) hq' q2 q3 eb hp))))
/-- behind 'need', two packages -/
theorem lm_2 {x4 z : Int32} {k : Nat} {frm slf oth : Bool} (hk : k < 5) (h1 : a1 0 = 0) (h1' : a1 1 = nI k) (h2 : a2 0 = 5) (h3 : a3 0 = 1) (h4 : a4 0 = bo_i frm) (h4' : a4 1 = 0) (h5 : ¬ a5 0 = 2)
    (hnt : pe_nt frm (ft_b (a6 0) 1 (a1 0) (a2 0) (a3 0)) (ft_b (a6 0) 1 (a1 1) (a2 1) (a3 1)) = cl_nt slf oth) (hin : ck_in true frm slf oth (decide (x4 = 0)) = true) (hp : post 1 ()) :
    wL_lawOf_191 post mc ms x4 (bo_i true) (bo_i frm) (bo_i slf) (bo_i oth) (bo_i (true && !decide (k = 0))) z z kc ks 2 0 0 0 0 0 ch rf ct fd bs bc a1 a2 a3 a4 a5 a6 (fun _ => 0) (fun _ => 0) a9 a10 (fun _ => 0) a12 a13 a14 (fun _ => 0) (fun _ => 0) (fun _ => 0) (fun _ => 0) := by
  obtain ⟨r1, r3, q2, q3, ch1, rf1, fd1, bs1, bc1, f15, f16, f17, f18, es, hf, ch2, rf2, fd2, bc2, g15, g16, g17, g18, eb⟩ := ck_ex (ck_2 k hk (pe_w k (a2 1)) frm slf oth (decide (x4 = 0)) hin)
  have hq : pq_ok 2 k (bo_i (pe_w k (a2 1))) (bo_i frm) (cl_nt slf oth) (cl_e true k false) 2 0 a1 a2 a3 a4 a5 a6 (fun _ => 0) (fun _ => 0) a9 a10 (fun _ => 0) a12 a13 a14 := by
    rw [← hnt]
    exact pp_2 (cc := false) hk h1 h1' h2 h4 h4' h5 rfl rfl (fun _ => rfl)
  refine lb_191 (sec := true) (nms := true && !decide (k = 0)) (c := 2) (by omega) hq r1 r3 es hf (fun rd' b11 b12 b13 b14 hq' => ?_)
  refine cs_2 rfl (fun y => ?_) (fun y => ?_)
  · have h11 : frm = false → b11 0 = 0 := by
      intro g
      subst g
      rw [hq'.1 rfl, ← hnt]
      rfl
    have hq2 : pq_ok 2 k (bo_i (pe_w k (a2 1))) (bo_i frm) (cl_nt slf oth) (cl_e true k (decide (x4 = 0))) 2 0 a1 a2 a3 a4 a5 a6 (upd (fun _ => 0) 1 1) (upd (fun _ => 0) 2 ((50 + x4).toInt8.toInt32)) a9 a10 b11 b12 b13 b14 := by
      have t := pp_2 (a1 := a1) (a2 := a2) (a3 := a3) (a4 := a4) (a5 := a5) (a6 := a6) (a7 := upd (fun _ => 0) 1 1) (a8 := upd (fun _ => 0) 2 ((50 + x4).toInt8.toInt32)) (a9 := a9) (a10 := a10) (a11 := b11) (a12 := b12) (a13 := b13) (a14 := b14)
        (frm := frm) (cc := true) hk h1 h1' h2 h4 h4' h5 (pk_un (by decide)) pk_us h11
      rw [hnt, h1, h2, h3, pk_us, fx_c y] at t
      exact t
    exact br_f bo_t (br_f (by rw [y]; exact bo_t) (lb_365 (sec := true) (lb_385 (t := decide (x4 = 0)) (by omega) hq2 q2 q3 eb hp)))
  · rw [fx_c0 y] at q2 q3 eb
    refine br_f bo_t (br_t (by rw [y]; rfl) (lb_365 (sec := true) ?_))
    rw [fx_c0 y]
    exact lb_385 (t := false) (by omega) hq' q2 q3 eb hp
theorem lx_in1 {x2 x3 : Int32} : ck_in false (la_frm x2 x3) (la_slf (la_frm x2 x3) x2 x3) false false = true := by
  cases la_frm x2 x3
  · rfl
  · cases la_slf true x2 x3 <;> rfl
theorem lx_in2 {x0 x1 x2 x3 : Int32} {t : Bool} : ck_in true (la_frm x2 x3) (la_slf (la_frm x2 x3) x2 x3) (la_oth (la_frm x2 x3) true x0 x1 x2 x3) t = true := by
  cases la_frm x2 x3
  · rfl
  · cases la_slf true x2 x3 <;> cases la_oth true true x0 x1 x2 x3 <;> rfl
/-- behind the second addPackage, which was refused -/
theorem ld_1 {x0 x1 x2 x3 x4 : Int32} (h1 : a1 0 = 0) (h2 : a2 0 = 5) (hp : post 1 ()) :
    wL_lawOf_167 post mc ms x2 x3 x4 (bo_i false) (bo_i (la_frm x2 x3)) (bo_i (la_slf (la_frm x2 x3) x2 x3)) (bo_i (la_oth (la_frm x2 x3) false x0 x1 x2 x3)) (bo_i (la_nms false x0)) (-1) (-1) kc ks
      1 0 0 0 0 0 ch rf ct fd bs bc a1 a2 a3 (fun _ => 0) (fun _ => 0) (fun _ => 0) (fun _ => 0) a8 a9 a10 (fun _ => 0) a12 a13 a14 (fun _ => 0) (fun _ => 0) (fun _ => 0) (fun _ => 0) := by
  have ho : la_oth (la_frm x2 x3) false x0 x1 x2 x3 = false := by cases la_frm x2 x3 <;> rfl
  rw [ho]
  refine br_t rfl (ne_1 (by decide) rfl (fun y => ?_) (fun y => ?_))
  · refine br_f (by rw [y]; exact bo_t) (lm_1 h1 (by rw [y]; rfl) (by rw [pk_us]; decide) ?_ lx_in1 hp)
    rw [pk_us, fx_b y, h1, h2, y]
    rfl
  · refine br_t (by rw [y]; rfl) (lm_1 h1 (by rw [y]; rfl) (by decide) ?_ lx_in1 hp)
    rw [y]
    show (0 : Int32) = cl_nt false false
    decide
theorem ld_2 {x0 x1 x2 x3 x4 : Int32} (hs : la_sec x0 x1 = true) (h1 : a1 0 = 0) (h1' : a1 1 = x0) (h2 : a2 0 = 5) (h2' : a2 1 = x1) (h3 : a3 0 = 1) (hp : post 1 ()) :
    wL_lawOf_167 post mc ms x2 x3 x4 (bo_i true) (bo_i (la_frm x2 x3)) (bo_i (la_slf (la_frm x2 x3) x2 x3)) (bo_i (la_oth (la_frm x2 x3) true x0 x1 x2 x3)) (bo_i (la_nms true x0)) 1 1 kc ks
      2 0 0 0 0 0 ch rf ct fd bs bc a1 a2 a3 (fun _ => 0) (fun _ => 0) (fun _ => 0) (fun _ => 0) (fun _ => 0) a9 a10 (fun _ => 0) a12 a13 a14 (fun _ => 0) (fun _ => 0) (fun _ => 0) (fun _ => 0) := by
  obtain ⟨k, v, hk, hv, e0, e1⟩ := fx_sec hs
  have hn : la_nms true x0 = (true && !decide (k = 0)) := by rw [e0]; exact fx_nm k hk
  rw [hn]
  refine br_t rfl (ne_1 (by decide) rfl (fun y => ?_) (fun y => ?_))
  · refine br_f (by rw [y]; exact bo_t) (lm_2 hk h1 (by rw [h1', e0]) h2 h3 (by rw [y]; rfl) (pk_un (by decide)) (by rw [pk_us]; decide) ?_ lx_in2 hp)
    rw [pk_us, fx_b y, fx_b y, h1, h2, h1', h2', y]
    rfl
  · refine br_t (by rw [y]; rfl) (lm_2 hk h1 (by rw [h1', e0]) h2 h3 (by rw [y]; rfl) rfl (by decide) ?_ lx_in2 hp)
    rw [y]
    show (0 : Int32) = cl_nt false false
    decide
end
section
variable {mc ms kc ks : Nat} {post : Int32 → St0 → Prop} {x0 x1 x2 x3 x4 : Int32}
theorem lh_125 (hp : post 1 ()) :
    wL_lawOf_125 post 110 1760 x0 x1 x2 x3 x4 (bo_i (la_sec x0 x1)) (bo_i (la_frm x2 x3)) (bo_i (la_slf (la_frm x2 x3) x2 x3)) (bo_i (la_oth (la_frm x2 x3) (la_sec x0 x1) x0 x1 x2 x3)) (bo_i (la_nms (la_sec x0 x1) x0)) 0 0 := by
  refine ⟨by decide, by decide, 18, 222, by decide, by decide, ?_⟩
  refine ⟨by decide, by decide, by decide, by decide, by decide, by decide, by decide, by decide, by decide, by decide, by decide, by decide, by decide, by decide, by decide, by decide, by decide, by decide, by decide, by decide, by decide, by decide, by decide, by decide, by decide, by decide, by decide, by decide, by decide, by decide, by decide, by decide, by decide, by decide, by decide, by decide, ?_⟩
  refine ad_1 (br_t rfl (ad_2 rfl rfl (fun y => ?_) (fun y => ?_)))
  · obtain ⟨k, v, hk, hv, e0, e1⟩ := fx_sec y
    rw [y]
    refine br_f bo_t (ld_2 y rfl ?_ rfl ?_ rfl hp)
    · rw [pk_us, e0]
      exact fx_by k (by omega)
    · rw [pk_us, e1]
      exact fx_by v hv
  · rw [y]
    exact br_t rfl (ld_1 rfl rfl hp)
theorem lh_109 {x6 x7 x8 : Int32} {sec : Bool} (H : wL_lawOf_125 post mc ms x0 x1 x2 x3 x4 (bo_i sec) x6 x7 x8 (bo_i (la_nms sec x0)) kc ks) : wL_lawOf_109 post mc ms x0 x1 x2 x3 x4 (bo_i sec) x6 x7 x8 kc ks := by
  cases sec
  · exact br_t rfl H
  · refine br_f bo_t ?_
    unfold la_nms at H
    rw [if_pos rfl] at H
    by_cases g : x0 = 0
    · rw [if_pos g] at H
      exact br_t g H
    · rw [if_neg g] at H
      exact br_f g H
theorem lh_82 {x7 : Int32} {sec frm : Bool} (H : wL_lawOf_109 post mc ms x0 x1 x2 x3 x4 (bo_i sec) (bo_i frm) x7 (bo_i (la_oth frm sec x0 x1 x2 x3)) kc ks) : wL_lawOf_82 post mc ms x0 x1 x2 x3 x4 (bo_i sec) (bo_i frm) x7 kc ks := by
  cases frm
  · exact br_t rfl H
  · refine br_f bo_t ?_
    cases sec
    · exact br_t rfl H
    · refine br_f bo_t ?_
      unfold la_oth at H
      rw [if_pos rfl, if_pos rfl] at H
      by_cases g : x2 = x0
      · rw [if_pos g] at H
        refine br_t g ?_
        by_cases g2 : x1 < x3
        · rw [if_pos g2] at H
          exact br_t g2 H
        · rw [if_neg g2] at H
          exact br_f g2 H
      · rw [if_neg g] at H
        exact br_f g H
theorem lh_61 {x5 : Int32} {frm : Bool} (H : wL_lawOf_82 post mc ms x0 x1 x2 x3 x4 x5 (bo_i frm) (bo_i (la_slf frm x2 x3)) kc ks) : wL_lawOf_61 post mc ms x0 x1 x2 x3 x4 x5 (bo_i frm) kc ks := by
  cases frm
  · exact br_t rfl H
  · refine br_f bo_t ?_
    unfold la_slf at H
    rw [if_pos rfl] at H
    by_cases g : x2 = 0
    · rw [if_pos g] at H
      refine br_t g ?_
      by_cases g2 : 5 < x3
      · rw [if_pos g2] at H
        exact br_t g2 H
      · rw [if_neg g2] at H
        exact br_f g2 H
    · rw [if_neg g] at H
      exact br_f g H
theorem lh_34 {z : Int32} (H : wL_lawOf_61 post mc ms x0 x1 x2 x3 x4 z (bo_i (la_frm x2 x3)) kc ks) : wL_lawOf_34 post mc ms x0 x1 x2 x3 x4 z kc ks := by
  unfold la_frm at H
  by_cases g1 : x2 < 0
  · rw [if_pos g1] at H
    exact br_t g1 H
  rw [if_neg g1] at H
  refine br_f g1 ?_
  by_cases g2 : 4 < x2
  · rw [if_pos g2] at H
    exact br_t g2 H
  rw [if_neg g2] at H
  refine br_f g2 ?_
  by_cases g3 : x3 < 1
  · rw [if_pos g3] at H
    exact br_t g3 H
  rw [if_neg g3] at H
  refine br_f g3 ?_
  by_cases g4 : 9 < x3
  · rw [if_pos g4] at H
    exact br_t g4 H
  rw [if_neg g4] at H
  exact br_f g4 H
theorem lh_0 (H : wL_lawOf_34 post mc ms x0 x1 x2 x3 x4 (bo_i (la_sec x0 x1)) 0 0) : wpL_lawOf post mc ms () x0 x1 x2 x3 x4 := by
  unfold la_sec at H
  by_cases g1 : x0 < 0
  · rw [if_pos g1] at H
    exact br_t g1 H
  rw [if_neg g1] at H
  refine br_f g1 ?_
  by_cases g2 : 4 < x0
  · rw [if_pos g2] at H
    exact br_t g2 H
  rw [if_neg g2] at H
  refine br_f g2 ?_
  by_cases g3 : x1 < 1
  · rw [if_pos g3] at H
    exact br_t g3 H
  rw [if_neg g3] at H
  refine br_f g3 ?_
  by_cases g4 : 9 < x1
  · rw [if_pos g4] at H
    exact br_t g4 H
  rw [if_neg g4] at H
  refine br_f g4 ?_
  by_cases g5 : x0 = 0
  · rw [if_pos g5] at H
    refine br_t g5 ?_
    by_cases g6 : x1 = 5
    · rw [if_pos g6] at H
      exact br_t g6 H
    · rw [if_neg g6] at H
      exact br_f g6 H
  · rw [if_neg g5] at H
    exact br_f g5 H
theorem lh_law (hp : post 1 ()) : wpL_lawOf post 110 1760 () x0 x1 x2 x3 x4 :=
  lh_0 (lh_34 (lh_61 (lh_82 (lh_109 (lh_125 hp)))))
end
theorem ce_any {P : Int32 → Prop} {L i : Nat} {xs : Nat → Int32} (hL : L ≤ 5) (hi : i < 5) (h : ∀ v, P v) : wpL_cellAt P L xs () (nI i) :=
  pk_le L i (fun _ => h 0) (fun z => ⟨pk_in i L z, h _⟩)
theorem i_vc (xs : Nat → Int32) (L : Nat) (hL : L ≤ 5) : wpL_law (fun r => r = 1) L xs :=
  ce_any (i := 0) hL (by omega) (fun r1 => ce_any (i := 1) hL (by omega) (fun r2 => ce_any (i := 2) hL (by omega) (fun r3 => ce_any (i := 3) hL (by omega) (fun r4 => ce_any (i := 4) hL (by omega) (fun r5 =>
    ⟨110, 1760, by decide, by decide, lh_law rfl⟩)))))
end
