section
/-- the pairs after a SET or an ADD, a MOVE, a SAME -/
def ac_df (pr v pl : Int32) : Int32 := ((pr &&& (((69905 : Int32) <<< (v &&& 31)) ^^^ (-1))) &&& (((15 : Int32) <<< ((4 * pl) &&& 31)) ^^^ (-1))) ||| ((1 : Int32) <<< (((4 * pl) + v) &&& 31))
def ac_al (pr v a : Int32) : Int32 := (pr &&& (((69905 : Int32) <<< (v &&& 31)) ^^^ (-1))) ||| (((pr >>> (a &&& 31)) &&& 69905) <<< (v &&& 31))
def ac_mv (pr pl sr : Int32) : Int32 := (pr &&& (((15 : Int32) <<< ((4 * pl) &&& 31)) ^^^ (-1))) ||| (((pr >>> ((4 * sr) &&& 31)) &&& 15) <<< ((4 * pl) &&& 31))
def ac_af (o vs ps pr : Int32) : Int32 :=
  if o = 0 then ac_df pr (vs &&& 3) (ps &&& 7)
  else if o = 1 then ac_df pr (vs &&& 3) (ps &&& 7)
  else if o = 2 then ac_mv pr (ps &&& 7) ((ps >>> ((3 : Int32) &&& 31)) &&& 7)
  else if o = 4 then ac_al pr (vs &&& 3) ((vs >>> ((2 : Int32) &&& 31)) &&& 3)
  else pr
/-- the first and the second fault of an ADD -/
def ac_f1 (vs ps pr : Int32) : Int32 := if ((pr >>> (((4 * ((ps >>> ((3 : Int32) &&& 31)) &&& 7)) + ((vs >>> ((2 : Int32) &&& 31)) &&& 3)) &&& 31)) &&& 1) = 0 then 0 ||| 1 else 0
def ac_f2 (vs ps pr s : Int32) : Int32 := if ((pr >>> (((4 * ((ps >>> ((6 : Int32) &&& 31)) &&& 7)) + ((vs >>> ((4 : Int32) &&& 31)) &&& 3)) &&& 31)) &&& 1) = 0 then s ||| 2 else s
def ac_fn (vs ps pr : Int32) : Int32 := ac_f2 vs ps pr (ac_f1 vs ps pr)
/-- the two ways to the join: by the SET, by the MOVE -/
def ac_L (p : Int32) : Int32 := ac_af 0 1 p 1
def ac_R (p z : Int32) : Int32 := ac_af 2 0 (p + 8 * z) 3
def ac_D (p z q : Int32) : Int32 := 1048575 &&& ac_af 1 6 (3 + 8 * q) (ac_L p &&& ac_R p z)
/-- what the law takes for due -/
def al_z (m p : Int32) : Int32 := if m = 0 then p else 0
def al_lf (p q : Int32) : Int32 := if q = p then 1 else 0
def al_rt (p q m : Int32) : Int32 := if q = 0 then 1 else if m = 0 then 0 else if q = p then 1 else 0
def al_ze (p : Int32) : Int32 := if p = 0 then 0 else 1
def al_d1 (lf rt : Int32) : Int32 := if lf = 0 then 1 else if rt = 0 then 1 else 0
def al_d2 (ze : Int32) : Int32 := if ze = 0 then 2 else 0
def al_a0 (q ze : Int32) : Int32 := if q = 0 then (if ze = 0 then 0 else 1) else 0
def al_a1 (lf rt : Int32) : Int32 := if lf = 0 then 0 else if rt = 0 then 0 else 2
def al_s1 (lf rt : Int32) : Int32 := if lf = 0 then (if rt = 0 then 0 else 2) else 2
def al_due (p q m : Int32) : Int32 := al_d1 (al_lf p q) (al_rt p q m) + al_d2 (al_ze p)
def al_car (p q m : Int32) : Int32 := ((al_a0 q (al_ze p) ||| al_a1 (al_lf p q) (al_rt p q m)) ||| (al_rt p q m <<< ((4 : Int32) &&& 31))) ||| (al_s1 (al_lf p q) (al_rt p q m) <<< ((4 : Int32) &&& 31))
theorem ac_tL : ∀ P, P < 5 → 1048575 &&& ac_L (nI P) = ac_L (nI P) ∧ 0 ||| ac_L (nI P) = ac_L (nI P) ∧ ac_L (nI P) &&& ac_L (nI P) = ac_L (nI P) := by decide +kernel
theorem ac_tO : ∀ P, P < 5 → ∀ M, M < 2 → ∀ Q, Q < 5 → ¬ ((ac_D (nI P) (al_z (nI M) (nI P)) (nI Q)) >>> (((4 * (((24 : Int32) >>> ((3 : Int32) &&& 31)) &&& 7)) + (((8 : Int32) >>> ((2 : Int32) &&& 31)) &&& 3)) &&& 31)) &&& 1 = 0 := by decide +kernel
theorem ac_tN : ∀ P, P < 5 → ∀ M, M < 2 → ∀ Q, Q < 5 → ac_fn 6 (3 + 8 * nI Q) (ac_L (nI P) &&& ac_R (nI P) (al_z (nI M) (nI P))) = al_due (nI P) (nI Q) (nI M) ∧ (al_due (nI P) (nI Q) (nI M)).toInt8.toInt32 = al_due (nI P) (nI Q) (nI M) := by decide +kernel
theorem ac_tC : ∀ P, P < 5 → ∀ M, M < 2 → ∀ Q, Q < 5 → (((ac_L (nI P) &&& ac_R (nI P) (al_z (nI M) (nI P))) >>> ((4 * nI Q) &&& 31)) &&& 15) ||| ((((ac_L (nI P) ||| ac_R (nI P) (al_z (nI M) (nI P))) >>> ((4 * nI Q) &&& 31)) &&& 15) <<< ((4 : Int32) &&& 31)) = al_car (nI P) (nI Q) (nI M) := by decide +kernel
theorem ac_tE : ∀ P, P < 5 → ∀ M, M < 2 → ∀ Q, Q < 5 → ¬ al_due (nI P) (nI Q) (nI M) = 0 ∨ (P ≠ 0 ∧ Q = P ∧ M = 1) := by decide +kernel
theorem ac_tD (P : Nat) (hP : P < 5) (M : Nat) (hM : M < 2) (Q : Nat) (hQ : Q < 5) (h : al_due (nI P) (nI Q) (nI M) = 0) : P ≠ 0 ∧ Q = P ∧ M = 1 := (ac_tE P hP M hM Q hQ).resolve_left (fun n => n h)
/-- the places as a MOVE and an ADD hold them -/
theorem ac_tP : ∀ P, P < 5 → (nI P).toInt16.toInt32 = nI P ∧ nI P &&& 7 = nI P := by decide +kernel
theorem ac_tM : ∀ P, P < 5 → ∀ Z, Z < 5 → (nI P + 8 * nI Z).toInt16.toInt32 = nI P + 8 * nI Z ∧ (nI P + 8 * nI Z) &&& 7 = nI P ∧ ((nI P + 8 * nI Z) >>> ((3 : Int32) &&& 31)) &&& 7 = nI Z := by decide +kernel
theorem ac_tA : ∀ Q, Q < 5 → (3 + 8 * nI Q).toInt16.toInt32 = 3 + 8 * nI Q ∧ (3 + 8 * nI Q) &&& 7 = nI 3 ∧ ((3 + 8 * nI Q) >>> ((3 : Int32) &&& 31)) &&& 7 = nI Q ∧ (3 + 8 * nI Q) >>> ((6 : Int32) &&& 31) = nI 0 ∧ ¬ 3 + 8 * nI Q < 0 := by decide +kernel
theorem ac_uid {f : Nat → Int32} {k : Nat} {v : Int32} (h : f k = v) : upd f k v = f := by
  funext j
  by_cases e : j = k
  · rw [e, pk_us, h]
  · rw [pk_un e]
theorem ac_c0 (c : Int32) : ((c.toUInt32 >>> (((0 : Int32) &&& 31).toUInt32 &&& Int32.toUInt32 31)).toInt32) = c := by
  apply Int32.toBitVec_inj.mp
  have h := pk_ushr c ((0 : Int32) &&& 31) 0 (by decide)
  apply BitVec.eq_of_toNat_eq
  rw [h]
  simp
theorem ac_c1 (c : Int32) : c &&& 1 = 0 ∨ c &&& 1 = 1 := by
  obtain ⟨j, hj, e⟩ := pk_andE c (m := 1) 1 (by decide)
  have : j = 0 ∨ j = 1 := by omega
  rcases this with rfl | rfl
  · exact Or.inl e
  · exact Or.inr e
end
section
section
variable {sz ck wt st aa ch fk oc : Int32} {a1 a2 a3 a4 a5 a6 a7 a8 a9 a10 : Nat → Int32}
theorem ac_in {post : Int32 → Prop} {x : Int32} (k : Nat) (hx : x = nI k) (hk : k < 9) (hp : post 1) : wpX_inside post (nI 9, ck, wt, st, aa, ch, fk, oc, a1, a2, a3, a4, a5, a6, a7, a8, a9, a10) x := by
  subst hx
  unfold wpX_inside
  dsimp only
  exact br_f (nI_pos (by omega)) (br_f (nI_ge hk (by omega)) hp)
theorem ac_out {post : Int32 → Prop} {x : Int32} (k : Nat) (hx : x = nI k) (hk : 9 ≤ k) (hb : k < 2 ^ 31) (hp : post 0) : wpX_inside post (nI 9, ck, wt, st, aa, ch, fk, oc, a1, a2, a3, a4, a5, a6, a7, a8, a9, a10) x := by
  subst hx
  unfold wpX_inside
  dsimp only
  exact br_f (nI_pos (by omega)) (br_t (nI_le hk (by omega)) hp)
theorem ac_after {post : Int32 → Prop} {pr : Int32} {k : Nat} (hk : k < 14) (hp : post (ac_af (a1 k) (a2 k) (a3 k) pr)) : wpX_after post (sz, ck, wt, st, aa, ch, fk, oc, a1, a2, a3, a4, a5, a6, a7, a8, a9, a10) (nI k) pr := by
  have hc : (nI k).toNatClampNeg = k := nI_clamp (by omega)
  have hi : vp_in (nI k) 14 := vp_in_nI hk (by omega)
  unfold wpX_after
  dsimp only
  rw [hc]
  refine ⟨hi, nm_e ⟨hi, nm_e ⟨hi, nm_e ?_⟩⟩⟩
  unfold ac_af at hp
  refine br_c (fun e => ?_) (fun e => ?_)
  · rw [if_pos e] at hp
    unfold wX_after_37 wpX_define
    exact nm_e (nm_e hp)
  rw [if_neg e] at hp
  refine br_c (fun e => ?_) (fun e => ?_)
  · rw [if_pos e] at hp
    unfold wX_after_37 wpX_define
    exact nm_e (nm_e hp)
  rw [if_neg e] at hp
  refine br_c (fun e => ?_) (fun e => ?_)
  · rw [if_pos e] at hp
    exact ⟨hi, nm_e hp⟩
  rw [if_neg e] at hp
  refine br_c (fun e => ?_) (fun e => ?_)
  · rw [if_pos e] at hp
    unfold wpX_alias
    exact ⟨hi, nm_e hp⟩
  rw [if_neg e] at hp
  exact hp
theorem ac_c60 {post : St2 → Prop} {va vs w2 : Int32} {k : Nat} (hk : k < 14) (hw : wt ||| ((1 : Int32) <<< (nI k &&& 31)) = w2)
    (hp : post (sz, ck, w2, st, aa, ch, fk, oc, a1, a2, a3, a4, upd a5 k 1, upd a6 k va, upd a7 k vs, a8, a9, a10)) : wX_come_60 post (nI k) va vs sz ck wt st aa ch fk oc a1 a2 a3 a4 a5 a6 a7 a8 a9 a10 := by
  have hc : (nI k).toNatClampNeg = k := nI_clamp (by omega)
  have hi : vp_in (nI k) 14 := vp_in_nI hk (by omega)
  unfold wX_come_60
  rw [hc]
  exact ⟨hi, nm_e ⟨hi, nm_e ⟨hi, nm_e (nm_r hw hp)⟩⟩⟩
theorem ac_come0 {post : St2 → Prop} {x p1 p2 va vs w2 : Int32} (k : Nat) (hx : x = nI k) (hk : k < 9) (h5 : a5 k = 0) (ha : a6 k &&& p1 = va) (hs : a7 k ||| p2 = vs) (hw : wt ||| ((1 : Int32) <<< (nI k &&& 31)) = w2)
    (hp : post (nI 9, ck, w2, st, aa, ch, fk, oc, a1, a2, a3, a4, upd a5 k 1, upd a6 k va, upd a7 k vs, a8, a9, a10)) : wpX_come post (nI 9, ck, wt, st, aa, ch, fk, oc, a1, a2, a3, a4, a5, a6, a7, a8, a9, a10) x p1 p2 := by
  subst hx
  have hc : (nI k).toNatClampNeg = k := nI_clamp (by omega)
  have hi : vp_in (nI k) 14 := vp_in_nI (by omega) (by omega)
  unfold wpX_come
  dsimp only
  refine ac_in k rfl hk (br_f (by decide) ?_)
  rw [hc]
  exact ⟨hi, nm_r ha ⟨hi, nm_r hs ⟨hi, br_t h5 (ac_c60 (by omega) hw hp)⟩⟩⟩
theorem ac_come1 {post : St2 → Prop} {x p1 p2 va vs : Int32} (k : Nat) (hx : x = nI k) (hk : k < 9) (h5 : a5 k = 1) (ha : a6 k &&& p1 = va) (hs : a7 k ||| p2 = vs) (hw : wt ||| ((1 : Int32) <<< (nI k &&& 31)) = wt)
    (hp : post (nI 9, ck, wt, st, aa, ch, fk, oc, a1, a2, a3, a4, upd a5 k 1, upd a6 k va, upd a7 k vs, a8, a9, a10)) : wpX_come post (nI 9, ck, wt, st, aa, ch, fk, oc, a1, a2, a3, a4, a5, a6, a7, a8, a9, a10) x p1 p2 := by
  subst hx
  have hc : (nI k).toNatClampNeg = k := nI_clamp (by omega)
  have hi : vp_in (nI k) 14 := vp_in_nI (by omega) (by omega)
  unfold wpX_come
  dsimp only
  refine ac_in k rfl hk (br_f (by decide) ?_)
  rw [hc]
  refine ⟨hi, nm_r ha ⟨hi, nm_r hs ⟨hi, br_f (by rw [h5]; decide) ⟨hi, br_c (fun e => ⟨hi, br_c (fun e2 => ?_) (fun _ => ac_c60 (by omega) hw hp)⟩) (fun _ => ac_c60 (by omega) hw hp)⟩⟩⟩⟩
  rw [ac_uid h5, ac_uid e.symm, ac_uid e2.symm] at hp
  exact hp
/-- leastWaiting -/
theorem ac_least {post : Int32 → Prop} (k : Nat) (hk : k < 14) (h0 : ∀ j, j < k → (wt >>> (nI j &&& 31)) &&& 1 = 0) (h1 : ¬ (wt >>> (nI k &&& 31)) &&& 1 = 0) (hp : post (nI k)) : wpX_leastWaiting post (sz, ck, wt, st, aa, ch, fk, oc, a1, a2, a3, a4, a5, a6, a7, a8, a9, a10) := by
  unfold wpX_leastWaiting
  dsimp only
  exact pk_loop (σ := Unit) (fun n i _ => wX_leastWaiting_2 post sz ck wt st aa ch fk oc a1 a2 a3 a4 a5 a6 a7 a8 a9 a10 n (nI i)) (fun _ _ => True) k 0 () (by omega) trivial
    (fun n _ _ => pk_le 14 k (fun z => absurd z (by omega)) (fun _ => br_f h1 hp))
    (fun n i _ hi _ hw => pk_le 14 i (fun z => absurd z (by omega)) (fun _ => br_t (h0 i hi) (nm_r (nI_1 i) (hw () trivial))))
/-- spread, by the kind of the instruction -/
theorem ac_sp {post : St2 → Prop} {o r1 r2 : Int32} {k : Nat} (hk : k < 14) (ho : a1 k = o) (h1 : ac_af o (a2 k) (a3 k) (a6 k) = r1) (h2 : ac_af o (a2 k) (a3 k) (a7 k) = r2)
    (hp : ((o = 5 → wX_spread_45 post (nI k) r1 r2 o sz ck wt st aa ch fk oc a1 a2 a3 a4 a5 a6 a7 a8 a9 a10) ∧ (¬ o = 5 → ((o = 6 → wX_spread_45 post (nI k) r1 r2 o sz ck wt st aa ch fk oc a1 a2 a3 a4 a5 a6 a7 a8 a9 a10) ∧ (¬ o = 6 → wX_spread_57 post (nI k) r1 r2 o sz ck wt st aa ch fk oc a1 a2 a3 a4 a5 a6 a7 a8 a9 a10))))) : wpX_spread post (sz, ck, wt, st, aa, ch, fk, oc, a1, a2, a3, a4, a5, a6, a7, a8, a9, a10) (nI k) := by
  have hc : (nI k).toNatClampNeg = k := nI_clamp (by omega)
  have hi : vp_in (nI k) 14 := vp_in_nI hk (by omega)
  subst ho h1 h2
  unfold wpX_spread
  dsimp only
  rw [hc]
  exact ⟨hi, ac_after hk ⟨hi, ac_after hk ⟨hi, nm_e hp⟩⟩⟩
theorem ac_sp_s {post : St2 → Prop} {o r1 r2 va vs w2 : Int32} {k : Nat} (hk : k < 8) (ho : a1 k = o) (n5 : ¬ o = 5) (n6 : ¬ o = 6) (n7 : ¬ o = 7) (h1 : ac_af o (a2 k) (a3 k) (a6 k) = r1) (h2 : ac_af o (a2 k) (a3 k) (a7 k) = r2)
    (h5 : a5 (k + 1) = 0) (ha : a6 (k + 1) &&& r1 = va) (hs : a7 (k + 1) ||| r2 = vs) (hw : wt ||| ((1 : Int32) <<< (nI (k + 1) &&& 31)) = w2)
    (hp : post (nI 9, ck, w2, st, aa, ch, fk, oc, a1, a2, a3, a4, upd a5 (k + 1) 1, upd a6 (k + 1) va, upd a7 (k + 1) vs, a8, a9, a10)) : wpX_spread post (nI 9, ck, wt, st, aa, ch, fk, oc, a1, a2, a3, a4, a5, a6, a7, a8, a9, a10) (nI k) := by
  refine ac_sp (by omega) ho h1 h2 (br_f n5 (br_f n6 ?_))
  unfold wX_spread_57
  exact br_f n6 (br_f n7 (ac_come0 (k + 1) (nI_1 k) (by omega) h5 ha hs hw hp))
theorem ac_sp_s1 {post : St2 → Prop} {o r1 r2 va vs : Int32} {k : Nat} (hk : k < 8) (ho : a1 k = o) (n5 : ¬ o = 5) (n6 : ¬ o = 6) (n7 : ¬ o = 7) (h1 : ac_af o (a2 k) (a3 k) (a6 k) = r1) (h2 : ac_af o (a2 k) (a3 k) (a7 k) = r2)
    (h5 : a5 (k + 1) = 1) (ha : a6 (k + 1) &&& r1 = va) (hs : a7 (k + 1) ||| r2 = vs) (hw : wt ||| ((1 : Int32) <<< (nI (k + 1) &&& 31)) = wt)
    (hp : post (nI 9, ck, wt, st, aa, ch, fk, oc, a1, a2, a3, a4, upd a5 (k + 1) 1, upd a6 (k + 1) va, upd a7 (k + 1) vs, a8, a9, a10)) : wpX_spread post (nI 9, ck, wt, st, aa, ch, fk, oc, a1, a2, a3, a4, a5, a6, a7, a8, a9, a10) (nI k) := by
  refine ac_sp (by omega) ho h1 h2 (br_f n5 (br_f n6 ?_))
  unfold wX_spread_57
  exact br_f n6 (br_f n7 (ac_come1 (k + 1) (nI_1 k) (by omega) h5 ha hs hw hp))
theorem ac_sp_j {post : St2 → Prop} {r1 r2 va vs w2 : Int32} {k t : Nat} (hk : k < 9) (ho : a1 k = 6) (ht : a4 k = nI t) (htb : t < 9) (h1 : ac_af 6 (a2 k) (a3 k) (a6 k) = r1) (h2 : ac_af 6 (a2 k) (a3 k) (a7 k) = r2)
    (h5 : a5 t = 0) (ha : a6 t &&& r1 = va) (hs : a7 t ||| r2 = vs) (hw : wt ||| ((1 : Int32) <<< (nI t &&& 31)) = w2)
    (hp : post (nI 9, ck, w2, st, aa, ch, fk, oc, a1, a2, a3, a4, upd a5 t 1, upd a6 t va, upd a7 t vs, a8, a9, a10)) : wpX_spread post (nI 9, ck, wt, st, aa, ch, fk, oc, a1, a2, a3, a4, a5, a6, a7, a8, a9, a10) (nI k) := by
  have hc : (nI k).toNatClampNeg = k := nI_clamp (by omega)
  have hi : vp_in (nI k) 14 := vp_in_nI (by omega) (by omega)
  refine ac_sp (by omega) ho h1 h2 (br_f (by decide) (br_t rfl ?_))
  unfold wX_spread_45
  rw [hc]
  refine ⟨hi, ac_come0 t ht htb h5 ha hs hw ?_⟩
  dsimp only
  unfold wX_spread_57
  exact br_t rfl hp
theorem ac_sp_f {post : St2 → Prop} {r1 r2 va vs w2 vb vt w3 : Int32} {k t : Nat} (hk : k < 8) (ho : a1 k = 5) (ht : a4 k = nI t) (htb : t < 9) (hne : k + 1 ≠ t) (h1 : ac_af 5 (a2 k) (a3 k) (a6 k) = r1) (h2 : ac_af 5 (a2 k) (a3 k) (a7 k) = r2)
    (h5 : a5 t = 0) (ha : a6 t &&& r1 = va) (hs : a7 t ||| r2 = vs) (hw : wt ||| ((1 : Int32) <<< (nI t &&& 31)) = w2)
    (g5 : a5 (k + 1) = 0) (ga : a6 (k + 1) &&& r1 = vb) (gs : a7 (k + 1) ||| r2 = vt) (gw : w2 ||| ((1 : Int32) <<< (nI (k + 1) &&& 31)) = w3)
    (hp : post (nI 9, ck, w3, st, aa, ch, fk, oc, a1, a2, a3, a4, upd (upd a5 t 1) (k + 1) 1, upd (upd a6 t va) (k + 1) vb, upd (upd a7 t vs) (k + 1) vt, a8, a9, a10)) : wpX_spread post (nI 9, ck, wt, st, aa, ch, fk, oc, a1, a2, a3, a4, a5, a6, a7, a8, a9, a10) (nI k) := by
  have hc : (nI k).toNatClampNeg = k := nI_clamp (by omega)
  have hi : vp_in (nI k) 14 := vp_in_nI (by omega) (by omega)
  refine ac_sp (by omega) ho h1 h2 (br_t rfl ?_)
  unfold wX_spread_45
  rw [hc]
  refine ⟨hi, ac_come0 t ht htb h5 ha hs hw ?_⟩
  dsimp only
  unfold wX_spread_57
  refine br_f (by decide) (br_f (by decide) (ac_come0 (k + 1) (nI_1 k) (by omega) ?_ ?_ ?_ gw hp))
  · rw [pk_un hne]; exact g5
  · rw [pk_un hne]; exact ga
  · rw [pk_un hne]; exact gs
theorem ac_sp_e {post : St2 → Prop} {k : Nat} (hk : k < 9) (ho : a1 k = 7) (hp : post (sz, ck, wt, st, aa, ch, fk, oc, a1, a2, a3, a4, a5, a6, a7, a8, a9, a10)) : wpX_spread post (sz, ck, wt, st, aa, ch, fk, oc, a1, a2, a3, a4, a5, a6, a7, a8, a9, a10) (nI k) := by
  refine ac_sp (by omega) ho rfl rfl (br_f (by decide) (br_f (by decide) ?_))
  unfold wX_spread_57
  exact br_f (by decide) (br_t rfl hp)
/-- one round -/
theorem ac_round {post : St2 → Prop} {x1 w2 : Int32} {fu : Nat} (k : Nat) (hx : ¬ 600 ≤ x1) (hw : ¬ wt = 0) (hk : k < 14) (h0 : ∀ j, j < k → (wt >>> (nI j &&& 31)) &&& 1 = 0) (h1 : ¬ (wt >>> (nI k &&& 31)) &&& 1 = 0)
    (hw2 : wt &&& (((1 : Int32) <<< (nI k &&& 31)) ^^^ (-1)) = w2)
    (h : ∀ R : St2 → Prop, (∀ (sz ck wt st aa ch fk oc : Int32) (a1 a2 a3 a4 a5 a6 a7 a8 a9 a10 : Nat → Int32), wX_check_70 post fu (x1 + 1) sz ck wt st aa ch fk oc a1 a2 a3 a4 a5 a6 a7 a8 a9 a10 → R (sz, ck, wt, st, aa, ch, fk, oc, a1, a2, a3, a4, a5, a6, a7, a8, a9, a10)) → wpX_spread R (sz, ck, w2, st, aa, ch, fk, oc, a1, a2, a3, a4, a5, a6, a7, a8, a9, a10) (nI k)) :
    wX_check_70 post (fu + 1) x1 sz ck wt st aa ch fk oc a1 a2 a3 a4 a5 a6 a7 a8 a9 a10 := by
  refine br_f hx (br_f hw ?_)
  exact ac_least k hk h0 h1 (nm_r hw2 (h _ (fun _ _ _ _ _ _ _ _ _ _ _ _ _ _ _ _ _ _ z => nm_e z)))
end
end
section
section
variable {sz ck wt st aa ch fk oc : Int32} {a1 a2 a3 a4 a5 a6 a7 a8 a9 a10 : Nat → Int32}
theorem ac_fa_p {post : Int32 → Prop} {o : Int32} {k : Nat} (hk : k < 8) (ho : a1 k = o) (n1 : ¬ o = 1) (n3 : ¬ o = 3) (n5 : ¬ o = 5) (n6 : ¬ o = 6) (n7 : ¬ o = 7) (hp : post 0) : wpX_faultsAt post (nI 9, ck, wt, st, aa, ch, fk, oc, a1, a2, a3, a4, a5, a6, a7, a8, a9, a10) (nI k) := by
  have hc : (nI k).toNatClampNeg = k := nI_clamp (by omega)
  have hi : vp_in (nI k) 14 := vp_in_nI (by omega) (by omega)
  unfold wpX_faultsAt
  dsimp only
  rw [hc]
  refine ⟨hi, nm_r ho (br_f n1 (br_f n3 ?_))⟩
  unfold wX_faultsAt_24
  refine br_t rfl ?_
  unfold wX_faultsAt_64
  refine br_f n1 ?_
  unfold wX_faultsAt_103
  refine br_f n5 (br_f n6 ?_)
  unfold wX_faultsAt_131 wX_faultsAt_132
  exact br_f n6 (br_f n7 (ac_in (k + 1) (nI_1 k) (by omega) (br_f (by decide) (br_t rfl hp))))
theorem ac_fa_f {post : Int32 → Prop} {k t : Nat} (hk : k < 8) (ho : a1 k = 5) (ht : a4 k = nI t) (htb : t < 9) (hp : post 0) : wpX_faultsAt post (nI 9, ck, wt, st, aa, ch, fk, oc, a1, a2, a3, a4, a5, a6, a7, a8, a9, a10) (nI k) := by
  have hc : (nI k).toNatClampNeg = k := nI_clamp (by omega)
  have hi : vp_in (nI k) 14 := vp_in_nI (by omega) (by omega)
  unfold wpX_faultsAt
  dsimp only
  rw [hc]
  refine ⟨hi, nm_r ho (br_f (by decide) (br_f (by decide) ?_))⟩
  unfold wX_faultsAt_24
  refine br_t rfl ?_
  unfold wX_faultsAt_64
  refine br_f (by decide) ?_
  unfold wX_faultsAt_103
  refine br_t rfl ?_
  unfold wX_faultsAt_114
  rw [hc]
  refine ⟨hi, ac_in t ht htb (br_f (by decide) ?_)⟩
  unfold wX_faultsAt_131 wX_faultsAt_132
  exact br_f (by decide) (br_f (by decide) (ac_in (k + 1) (nI_1 k) (by omega) (br_f (by decide) (br_t rfl hp))))
theorem ac_fa_j {post : Int32 → Prop} {k t : Nat} (hk : k < 9) (ho : a1 k = 6) (ht : a4 k = nI t) (htb : t < 9) (hp : post 0) : wpX_faultsAt post (nI 9, ck, wt, st, aa, ch, fk, oc, a1, a2, a3, a4, a5, a6, a7, a8, a9, a10) (nI k) := by
  have hc : (nI k).toNatClampNeg = k := nI_clamp (by omega)
  have hi : vp_in (nI k) 14 := vp_in_nI (by omega) (by omega)
  unfold wpX_faultsAt
  dsimp only
  rw [hc]
  refine ⟨hi, nm_r ho (br_f (by decide) (br_f (by decide) ?_))⟩
  unfold wX_faultsAt_24
  refine br_t rfl ?_
  unfold wX_faultsAt_64
  refine br_f (by decide) ?_
  unfold wX_faultsAt_103
  refine br_f (by decide) (br_t rfl ?_)
  unfold wX_faultsAt_114
  rw [hc]
  refine ⟨hi, ac_in t ht htb (br_f (by decide) ?_)⟩
  unfold wX_faultsAt_131 wX_faultsAt_132
  exact br_t rfl (br_t rfl hp)
theorem ac_fa_e {post : Int32 → Prop} {k : Nat} (hk : k < 9) (ho : a1 k = 7) (hp : post 0) : wpX_faultsAt post (nI 9, ck, wt, st, aa, ch, fk, oc, a1, a2, a3, a4, a5, a6, a7, a8, a9, a10) (nI k) := by
  have hc : (nI k).toNatClampNeg = k := nI_clamp (by omega)
  have hi : vp_in (nI k) 14 := vp_in_nI (by omega) (by omega)
  unfold wpX_faultsAt
  dsimp only
  rw [hc]
  refine ⟨hi, nm_r ho (br_f (by decide) (br_f (by decide) ?_))⟩
  unfold wX_faultsAt_24
  refine br_t rfl ?_
  unfold wX_faultsAt_64
  refine br_f (by decide) ?_
  unfold wX_faultsAt_103
  refine br_f (by decide) (br_f (by decide) ?_)
  unfold wX_faultsAt_131 wX_faultsAt_132
  exact br_f (by decide) (br_t rfl (br_t rfl hp))
theorem ac_fa_103 {post : Int32 → Prop} {o x3 : Int32} {k : Nat} (hk : k < 8) (n5 : ¬ o = 5) (n6 : ¬ o = 6) (n7 : ¬ o = 7) (hp : post x3) : wX_faultsAt_103 post (nI k) o x3 (nI 9) ck wt st aa ch fk oc a1 a2 a3 a4 a5 a6 a7 a8 a9 a10 := by
  unfold wX_faultsAt_103
  refine br_f n5 (br_f n6 ?_)
  unfold wX_faultsAt_131 wX_faultsAt_132
  exact br_f n6 (br_f n7 (ac_in (k + 1) (nI_1 k) (by omega) (br_f (by decide) (br_t rfl hp))))
theorem ac_fa_o {post : Int32 → Prop} {k : Nat} (hk : k < 8) (ho : a1 k = 3) (hb : ¬ ((a6 k >>> (((4 * ((a3 k >>> ((3 : Int32) &&& 31)) &&& 7)) + ((a2 k >>> ((2 : Int32) &&& 31)) &&& 3)) &&& 31)) &&& 1) = 0) (hp : post 0) : wpX_faultsAt post (nI 9, ck, wt, st, aa, ch, fk, oc, a1, a2, a3, a4, a5, a6, a7, a8, a9, a10) (nI k) := by
  have hc : (nI k).toNatClampNeg = k := nI_clamp (by omega)
  have hi : vp_in (nI k) 14 := vp_in_nI (by omega) (by omega)
  unfold wpX_faultsAt
  dsimp only
  rw [hc]
  refine ⟨hi, nm_r ho (br_f (by decide) (br_t rfl ?_))⟩
  unfold wX_faultsAt_19 wX_faultsAt_24
  rw [hc]
  refine br_f (by decide) ⟨hi, hi, ?_⟩
  unfold wpX_carried
  dsimp only
  rw [hc]
  refine ⟨hi, br_f hb (br_f (by decide) ?_)⟩
  unfold wX_faultsAt_64
  exact br_f (by decide) (ac_fa_103 hk (by decide) (by decide) (by decide) hp)
theorem ac_fa_64 {post : Int32 → Prop} {s : Int32} {k : Nat} (hk : k < 8) (hp : post (ac_f2 (a2 k) (a3 k) (a6 k) s)) : wX_faultsAt_64 post (nI k) 1 s (nI 9) ck wt st aa ch fk oc a1 a2 a3 a4 a5 a6 a7 a8 a9 a10 := by
  have hc : (nI k).toNatClampNeg = k := nI_clamp (by omega)
  have hi : vp_in (nI k) 14 := vp_in_nI (by omega) (by omega)
  unfold wX_faultsAt_64
  rw [hc]
  refine br_t rfl ⟨hi, hi, ?_⟩
  unfold wpX_carried
  dsimp only
  rw [hc]
  unfold ac_f2 at hp
  refine ⟨hi, br_c (fun e => ?_) (fun e => ?_)⟩
  · rw [if_pos e] at hp
    exact br_t rfl (nm_e (ac_fa_103 hk (by decide) (by decide) (by decide) hp))
  · rw [if_neg e] at hp
    exact br_f (by decide) (ac_fa_103 hk (by decide) (by decide) (by decide) hp)
theorem ac_fa_a {post : Int32 → Prop} {k : Nat} (hk : k < 8) (ho : a1 k = 1) (hp : post (ac_fn (a2 k) (a3 k) (a6 k))) : wpX_faultsAt post (nI 9, ck, wt, st, aa, ch, fk, oc, a1, a2, a3, a4, a5, a6, a7, a8, a9, a10) (nI k) := by
  have hc : (nI k).toNatClampNeg = k := nI_clamp (by omega)
  have hi : vp_in (nI k) 14 := vp_in_nI (by omega) (by omega)
  unfold wpX_faultsAt
  dsimp only
  rw [hc]
  refine ⟨hi, nm_r ho (br_t rfl ?_)⟩
  unfold wX_faultsAt_19 wX_faultsAt_24
  rw [hc]
  refine br_f (by decide) ⟨hi, hi, ?_⟩
  unfold wpX_carried
  dsimp only
  rw [hc]
  unfold ac_fn ac_f1 at hp
  refine ⟨hi, br_c (fun e => ?_) (fun e => ?_)⟩
  · rw [if_pos e] at hp
    exact br_t rfl (nm_e (ac_fa_64 hk hp))
  · rw [if_neg e] at hp
    exact br_f (by decide) (ac_fa_64 hk hp)
end
end
section
/-- the program that the law writes: places p, q, the MOVE's source z -/
def ac_Pg (p z q : Int32) (a1 a2 a3 a4 : Nat → Int32) : Prop :=
  (a1 0 = 0 ∧ a1 1 = 5 ∧ a1 2 = 0 ∧ a1 3 = 6 ∧ a1 4 = 4 ∧ a1 5 = 2 ∧ a1 6 = 1 ∧ a1 7 = 3 ∧ a1 8 = 7) ∧
  (a2 0 = 0 ∧ a2 2 = 1 ∧ a2 4 = 1 ∧ a2 5 = 0 ∧ a2 6 = 6 ∧ a2 7 = 8) ∧
  (a3 0 = 0 ∧ a3 2 = p ∧ a3 4 = 0 ∧ a3 5 = p + 8 * z ∧ a3 6 = 3 + 8 * q ∧ a3 7 = 24) ∧ (a4 1 = nI 4 ∧ a4 3 = nI 6)
/-- what the check has found -/
def ac_Ck (p z q : Int32) (a5 a6 a7 : Nat → Int32) : Prop :=
  (∀ j, j < 9 → a5 j = 1) ∧ a6 6 = ac_L p &&& ac_R p z ∧ a7 6 = ac_L p ||| ac_R p z ∧ a6 7 = ac_D p z q
def ac_F (d : Int32) (j : Nat) : Int32 := if j = 6 then d else 0
theorem ac_fill {f s : Nat → Int32} {i k : Nat} {x : Int32} (hk : k = i) (h : ∀ j, j < i → s j = f j) (hx : x = f i) : ∀ j, j < i + 1 → upd s k x j = f j := by
  intro j hj
  rw [hk]
  by_cases e : j = i
  · rw [e, pk_us, hx]
  · rw [pk_un e]
    exact h j (by omega)
section
variable {sz ck wt st aa ch fk oc : Int32} {a1 a2 a3 a4 a5 a6 a7 a8 a9 a10 : Nat → Int32}
theorem ac_rounds {post : St2 → Prop} {z q : Int32} {P : Nat} (hP : P < 5) (hg : ac_Pg (nI P) z q a1 a2 a3 a4)
    (h5 : ∀ j, j < 14 → a5 j = 0) (h6 : ∀ j, j < 14 → a6 j = 1048575) (h7 : ∀ j, j < 14 → a7 j = 0)
    (H : ∀ b5 b6 b7, ac_Ck (nI P) z q b5 b6 b7 → ∃ fu, wX_check_116 post (nI 9) ck 0 st aa ch fk oc fu 0 a1 a2 a3 a4 b5 b6 b7 a8 a9 a10)
    (R : St2 → Prop) (hR : ∀ (sz ck wt st aa ch fk oc : Int32) (a1 a2 a3 a4 a5 a6 a7 a8 a9 a10 : Nat → Int32), (∃ fu, wX_check_70 post fu 0 sz ck wt st aa ch fk oc a1 a2 a3 a4 a5 a6 a7 a8 a9 a10) → R (sz, ck, wt, st, aa, ch, fk, oc, a1, a2, a3, a4, a5, a6, a7, a8, a9, a10)) :
    wpX_come R (nI 9, ck, 0, st, aa, ch, fk, oc, a1, a2, a3, a4, a5, a6, a7, a8, a9, a10) 0 0 0 := by
  obtain ⟨⟨g10, g11, g12, g13, g14, g15, g16, g17, g18⟩, ⟨g20, g22, g24, g25, g26, g27⟩, ⟨g30, g32, g34, g35, g36, g37⟩, g41, g43⟩ := hg
  obtain ⟨t1, t2, t3⟩ := ac_tL P hP
  refine ac_come0 0 rfl (by omega) (h5 0 (by omega)) (va := 0) (vs := 0) (w2 := 1) (by rw [h6 0 (by omega)]; decide) (by rw [h7 0 (by omega)]; decide) (by decide) (hR _ _ _ _ _ _ _ _ _ _ _ _ _ _ _ _ _ _ ⟨10, ?_⟩)
  refine ac_round 0 (by decide) (by decide) (by omega) (by decide) (by decide) (w2 := 0) (by decide) (fun R0 hR0 => ac_sp_s (o := 0) (r1 := 1) (r2 := 1) (va := 1) (vs := 1) (w2 := 2) (by omega) g10 (by decide) (by decide) (by decide) ?_ ?_ (h5 1 (by omega)) ?_ ?_ (by decide) (hR0 _ _ _ _ _ _ _ _ _ _ _ _ _ _ _ _ _ _ ?_))
  · show ac_af 0 (a2 0) (a3 0) 0 = 1
    rw [g20, g30]; decide +kernel
  · show ac_af 0 (a2 0) (a3 0) 0 = 1
    rw [g20, g30]; decide +kernel
  · show a6 1 &&& 1 = 1
    rw [h6 1 (by omega)]; decide +kernel
  · show a7 1 ||| 1 = 1
    rw [h7 1 (by omega)]; decide +kernel
  refine ac_round 1 (by decide) (by decide) (by omega) (by decide) (by decide) (w2 := 0) (by decide) (fun R0 hR0 => ac_sp_f (t := 4) (r1 := 1) (r2 := 1) (va := 1) (vs := 1) (vb := 1) (vt := 1) (w2 := 16) (w3 := 20) (by omega) g11 g41 (by omega) (by omega) rfl rfl (h5 4 (by omega)) ?_ ?_ (by decide) (h5 2 (by omega)) ?_ ?_ (by decide) (hR0 _ _ _ _ _ _ _ _ _ _ _ _ _ _ _ _ _ _ ?_))
  · show a6 4 &&& 1 = 1
    rw [h6 4 (by omega)]; decide +kernel
  · show a7 4 ||| 1 = 1
    rw [h7 4 (by omega)]; decide +kernel
  · show a6 2 &&& 1 = 1
    rw [h6 2 (by omega)]; decide +kernel
  · show a7 2 ||| 1 = 1
    rw [h7 2 (by omega)]; decide +kernel
  refine ac_round 2 (by decide) (by decide) (by omega) (by decide) (by decide) (w2 := 16) (by decide) (fun R0 hR0 => ac_sp_s (o := 0) (r1 := ac_L (nI P)) (r2 := ac_L (nI P)) (va := ac_L (nI P)) (vs := ac_L (nI P)) (w2 := 24) (by omega) g12 (by decide) (by decide) (by decide) ?_ ?_ (h5 3 (by omega)) ?_ ?_ (by decide) (hR0 _ _ _ _ _ _ _ _ _ _ _ _ _ _ _ _ _ _ ?_))
  · show ac_af 0 (a2 2) (a3 2) 1 = ac_L (nI P)
    rw [g22, g32]; rfl
  · show ac_af 0 (a2 2) (a3 2) 1 = ac_L (nI P)
    rw [g22, g32]; rfl
  · show a6 3 &&& ac_L (nI P) = ac_L (nI P)
    rw [h6 3 (by omega)]; exact t1
  · show a7 3 ||| ac_L (nI P) = ac_L (nI P)
    rw [h7 3 (by omega)]; exact t2
  refine ac_round 3 (by decide) (by decide) (by omega) (by decide) (by decide) (w2 := 16) (by decide) (fun R0 hR0 => ac_sp_j (t := 6) (r1 := ac_L (nI P)) (r2 := ac_L (nI P)) (va := ac_L (nI P)) (vs := ac_L (nI P)) (w2 := 80) (by omega) g13 g43 (by omega) rfl rfl (h5 6 (by omega)) ?_ ?_ (by decide) (hR0 _ _ _ _ _ _ _ _ _ _ _ _ _ _ _ _ _ _ ?_))
  · show a6 6 &&& ac_L (nI P) = ac_L (nI P)
    rw [h6 6 (by omega)]; exact t1
  · show a7 6 ||| ac_L (nI P) = ac_L (nI P)
    rw [h7 6 (by omega)]; exact t2
  refine ac_round 4 (by decide) (by decide) (by omega) (by decide) (by decide) (w2 := 64) (by decide) (fun R0 hR0 => ac_sp_s (o := 4) (r1 := 3) (r2 := 3) (va := 3) (vs := 3) (w2 := 96) (by omega) g14 (by decide) (by decide) (by decide) ?_ ?_ (h5 5 (by omega)) ?_ ?_ (by decide) (hR0 _ _ _ _ _ _ _ _ _ _ _ _ _ _ _ _ _ _ ?_))
  · show ac_af 4 (a2 4) (a3 4) 1 = 3
    rw [g24, g34]; decide +kernel
  · show ac_af 4 (a2 4) (a3 4) 1 = 3
    rw [g24, g34]; decide +kernel
  · show a6 5 &&& 3 = 3
    rw [h6 5 (by omega)]; decide +kernel
  · show a7 5 ||| 3 = 3
    rw [h7 5 (by omega)]; decide +kernel
  refine ac_round 5 (by decide) (by decide) (by omega) (by decide) (by decide) (w2 := 64) (by decide) (fun R0 hR0 => ac_sp_s1 (o := 2) (r1 := ac_R (nI P) z) (r2 := ac_R (nI P) z) (va := ac_L (nI P) &&& ac_R (nI P) z) (vs := ac_L (nI P) ||| ac_R (nI P) z) (by omega) g15 (by decide) (by decide) (by decide) ?_ ?_ rfl rfl rfl (by decide) (hR0 _ _ _ _ _ _ _ _ _ _ _ _ _ _ _ _ _ _ ?_))
  · show ac_af 2 (a2 5) (a3 5) 3 = ac_R (nI P) z
    rw [g25, g35]; rfl
  · show ac_af 2 (a2 5) (a3 5) 3 = ac_R (nI P) z
    rw [g25, g35]; rfl
  refine ac_round 6 (by decide) (by decide) (by omega) (by decide) (by decide) (w2 := 0) (by decide) (fun R0 hR0 => ac_sp_s (o := 1) (r1 := ac_af 1 6 (3 + 8 * q) (ac_L (nI P) &&& ac_R (nI P) z)) (r2 := ac_af 1 6 (3 + 8 * q) (ac_L (nI P) ||| ac_R (nI P) z)) (va := ac_D (nI P) z q) (vs := 0 ||| ac_af 1 6 (3 + 8 * q) (ac_L (nI P) ||| ac_R (nI P) z)) (w2 := 128) (by omega) g16 (by decide) (by decide) (by decide) ?_ ?_ (h5 7 (by omega)) ?_ ?_ (by decide) (hR0 _ _ _ _ _ _ _ _ _ _ _ _ _ _ _ _ _ _ ?_))
  · show ac_af 1 (a2 6) (a3 6) (ac_L (nI P) &&& ac_R (nI P) z) = _
    rw [g26, g36]
  · show ac_af 1 (a2 6) (a3 6) (ac_L (nI P) ||| ac_R (nI P) z) = _
    rw [g26, g36]
  · show a6 7 &&& _ = _
    rw [h6 7 (by omega)]; rfl
  · show a7 7 ||| _ = _
    rw [h7 7 (by omega)]
  refine ac_round 7 (by decide) (by decide) (by omega) (by decide) (by decide) (w2 := 0) (by decide) (fun R0 hR0 => ac_sp_s (o := 3) (w2 := 256) (by omega) g17 (by decide) (by decide) (by decide) rfl rfl (h5 8 (by omega)) rfl rfl (by decide) (hR0 _ _ _ _ _ _ _ _ _ _ _ _ _ _ _ _ _ _ ?_))
  refine ac_round 8 (by decide) (by decide) (by omega) (by decide) (by decide) (w2 := 0) (by decide) (fun R0 hR0 => ac_sp_e (by omega) g18 (hR0 _ _ _ _ _ _ _ _ _ _ _ _ _ _ _ _ _ _ ?_))
  refine br_f (by decide) (br_t rfl (H _ _ _ ⟨?_, rfl, rfl, rfl⟩))
  intro j hj
  have e : j = 0 ∨ j = 1 ∨ j = 2 ∨ j = 3 ∨ j = 4 ∨ j = 5 ∨ j = 6 ∨ j = 7 ∨ j = 8 := by omega
  rcases e with rfl | rfl | rfl | rfl | rfl | rfl | rfl | rfl | rfl <;> rfl
theorem ac_floop {post : St2 → Prop} {F : Nat → Int32} (h5 : ∀ j, j < 9 → a5 j = 1) (hF : ∀ j, j < 9 → (F j).toInt8.toInt32 = F j)
    (hf : ∀ (b : Nat → Int32) (i : Nat), i < 9 → ∀ Q : Int32 → Prop, Q (F i) → wpX_faultsAt Q (nI 9, ck, wt, st, aa, ch, fk, oc, a1, a2, a3, a4, a5, a6, a7, b, a9, a10) (nI i))
    (H : ∀ b, (∀ j, j < 9 → b j = F j) → post (nI 9, ck, wt, st, aa, ch, fk, oc, a1, a2, a3, a4, a5, a6, a7, b, a9, a10)) : ∃ fu, wX_check_116 post (nI 9) ck wt st aa ch fk oc fu 0 a1 a2 a3 a4 a5 a6 a7 a8 a9 a10 :=
  pk_loop (fun n i s => wX_check_116 post (nI 9) ck wt st aa ch fk oc n (nI i) a1 a2 a3 a4 a5 a6 a7 s a9 a10) (fun i s => ∀ j, j < i → s j = F j) 9 0 a8 (by omega) (fun j hj => absurd hj (by omega))
    (fun n s h => pk_le 9 9 (fun _ => H s h) (fun z => absurd z (by omega)))
    (fun n i s hi h hw => pk_le 9 i (fun z => absurd z (by omega)) (fun _ => ⟨pk_in i 14 (by omega), br_f (by rw [nI_clamp (by omega), h5 i hi]; decide) (hf s i hi _ ⟨pk_in i 14 (by omega), nm_e (nm_r (nI_1 i) (hw _ (ac_fill (nI_clamp (by omega)) h (hF i hi))))⟩)⟩))
theorem ac_faults {P M Q : Nat} (hP : P < 5) (hM : M < 2) (hQ : Q < 5) (hg : ac_Pg (nI P) (al_z (nI M) (nI P)) (nI Q) a1 a2 a3 a4) (hc : ac_Ck (nI P) (al_z (nI M) (nI P)) (nI Q) a5 a6 a7)
    (i : Nat) (hi : i < 9) (post : Int32 → Prop) (hp : post (ac_F (al_due (nI P) (nI Q) (nI M)) i)) : wpX_faultsAt post (nI 9, ck, wt, st, aa, ch, fk, oc, a1, a2, a3, a4, a5, a6, a7, a8, a9, a10) (nI i) := by
  obtain ⟨⟨g10, g11, g12, g13, g14, g15, g16, g17, g18⟩, ⟨g20, g22, g24, g25, g26, g27⟩, ⟨g30, g32, g34, g35, g36, g37⟩, g41, g43⟩ := hg
  obtain ⟨c5, c6, c7, c8⟩ := hc
  have e : i = 0 ∨ i = 1 ∨ i = 2 ∨ i = 3 ∨ i = 4 ∨ i = 5 ∨ i = 6 ∨ i = 7 ∨ i = 8 := by omega
  rcases e with rfl | rfl | rfl | rfl | rfl | rfl | rfl | rfl | rfl
  · exact ac_fa_p (by omega) g10 (by decide) (by decide) (by decide) (by decide) (by decide) hp
  · exact ac_fa_f (by omega) g11 g41 (by omega) hp
  · exact ac_fa_p (by omega) g12 (by decide) (by decide) (by decide) (by decide) (by decide) hp
  · exact ac_fa_j (by omega) g13 g43 (by omega) hp
  · exact ac_fa_p (by omega) g14 (by decide) (by decide) (by decide) (by decide) (by decide) hp
  · exact ac_fa_p (by omega) g15 (by decide) (by decide) (by decide) (by decide) (by decide) hp
  · refine ac_fa_a (by omega) g16 ?_
    rw [g26, g36, c6, (ac_tN P hP M hM Q hQ).1]
    exact hp
  · refine ac_fa_o (by omega) g17 ?_ hp
    rw [g27, g37, c8]
    exact ac_tO P hP M hM Q hQ
  · exact ac_fa_e (by omega) g18 hp
theorem ac_check {post : St2 → Prop} {P M Q : Nat} (hP : P < 5) (hM : M < 2) (hQ : Q < 5) (hg : ac_Pg (nI P) (al_z (nI M) (nI P)) (nI Q) a1 a2 a3 a4)
    (H : ∀ b5 b6 b7 b8, ac_Ck (nI P) (al_z (nI M) (nI P)) (nI Q) b5 b6 b7 → (∀ j, j < 9 → b8 j = ac_F (al_due (nI P) (nI Q) (nI M)) j) → post (nI 9, 1, 0, st, aa, ch, fk, oc, a1, a2, a3, a4, b5, b6, b7, b8, a9, a10)) :
    wpX_check post (nI 9, 0, wt, st, aa, ch, fk, oc, a1, a2, a3, a4, a5, a6, a7, a8, a9, a10) := by
  unfold wpX_check
  dsimp only
  refine br_t rfl ?_
  refine pk_loop (fun n i (s : (Nat → Int32) × (Nat → Int32) × (Nat → Int32) × (Nat → Int32)) => wX_check_15 post (nI 9) 1 wt st aa ch fk oc n (nI i) a1 a2 a3 a4 s.1 s.2.1 s.2.2.1 s.2.2.2 a9 a10) (fun i s => (∀ j, j < i → s.1 j = 0) ∧ (∀ j, j < i → s.2.1 j = 1048575) ∧ (∀ j, j < i → s.2.2.1 j = 0)) 14 0 (a5, a6, a7, a8) (by omega) ⟨fun j hj => absurd hj (by omega), fun j hj => absurd hj (by omega), fun j hj => absurd hj (by omega)⟩ ?_ ?_
  · intro n s h
    refine pk_le 14 14 (fun _ => ?_) (fun z => absurd z (by omega))
    refine ac_rounds hP hg h.1 h.2.1 h.2.2 (fun b5 b6 b7 hc => ?_) _ (fun _ _ _ _ _ _ _ _ _ _ _ _ _ _ _ _ _ _ z => z)
    refine ac_floop hc.1 ?_ (fun b i hi R hR => ac_faults hP hM hQ hg hc i hi R hR) (fun b hb => H b5 b6 b7 b hc hb)
    intro j hj
    unfold ac_F
    by_cases e : j = 6
    · rw [if_pos e]
      exact (ac_tN P hP M hM Q hQ).2
    · rw [if_neg e]
      rfl
  · intro n i s hi h hw
    have hc : (nI i).toNatClampNeg = i := nI_clamp (by omega)
    have hv : vp_in (nI i) 14 := vp_in_nI hi (by omega)
    refine pk_le 14 i (fun z => absurd z (by omega)) (fun _ => ⟨hv, nm_e ⟨hv, nm_e ⟨hv, nm_e ⟨hv, nm_e (nm_r (nI_1 i) ?_)⟩⟩⟩⟩)
    rw [hc]
    exact hw (upd s.1 i 0, upd s.2.1 i 1048575, upd s.2.2.1 i 0, upd s.2.2.2 i 0) ⟨ac_fill (f := fun _ => 0) rfl h.1 rfl, ac_fill (f := fun _ => 1048575) rfl h.2.1 rfl, ac_fill (f := fun _ => 0) rfl h.2.2 rfl⟩
end
end
section
section
variable {sz ck wt st aa ch fk oc : Int32} {a1 a2 a3 a4 a5 a6 a7 a8 a9 a10 : Nat → Int32}
theorem ac_ckd {post : St2 → Prop} (hp : post (sz, 1, wt, st, aa, ch, fk, oc, a1, a2, a3, a4, a5, a6, a7, a8, a9, a10)) : wpX_check post (sz, 1, wt, st, aa, ch, fk, oc, a1, a2, a3, a4, a5, a6, a7, a8, a9, a10) := by
  unfold wpX_check
  dsimp only
  exact br_f (by decide) hp
theorem ac_sound {post : Int32 → St2 → Prop} {d : Int32} (h8 : ∀ j, j < 9 → a8 j = ac_F d j) (h0 : d = 0 → post 1 (nI 9, 1, wt, st, aa, ch, fk, oc, a1, a2, a3, a4, a5, a6, a7, a8, a9, a10)) (h1 : ¬ d = 0 → post 0 (nI 9, 1, wt, st, aa, ch, fk, oc, a1, a2, a3, a4, a5, a6, a7, a8, a9, a10)) : wpX_sound post (nI 9, 1, wt, st, aa, ch, fk, oc, a1, a2, a3, a4, a5, a6, a7, a8, a9, a10) := by
  unfold wpX_sound
  dsimp only
  refine br_f (by decide) (ac_ckd ?_)
  by_cases hd : d = 0
  · refine pk_loop (σ := Unit) (fun n i _ => wX_sound_15 post (nI 9) 1 wt st aa ch fk oc a1 a2 a3 a4 a5 a6 a7 a8 a9 a10 n (nI i)) (fun _ _ => True) 9 0 () (by omega) trivial
      (fun n _ _ => pk_le 9 9 (fun _ => h0 hd) (fun z => absurd z (by omega)))
      (fun n i _ hi _ hw => pk_le 9 i (fun z => absurd z (by omega)) (fun _ => ⟨pk_in i 14 (by omega), br_t ?_ (nm_r (nI_1 i) (hw () trivial))⟩))
    rw [nI_clamp (by omega), h8 i hi]
    unfold ac_F
    by_cases e : i = 6
    · rw [if_pos e]; exact hd
    · rw [if_neg e]
  · refine pk_loop (σ := Unit) (fun n i _ => wX_sound_15 post (nI 9) 1 wt st aa ch fk oc a1 a2 a3 a4 a5 a6 a7 a8 a9 a10 n (nI i)) (fun _ _ => True) 6 0 () (by omega) trivial
      (fun n _ _ => pk_le 9 6 (fun z => absurd z (by omega)) (fun _ => ⟨pk_in 6 14 (by omega), br_f ?_ (h1 hd)⟩))
      (fun n i _ hi _ hw => pk_le 9 i (fun z => absurd z (by omega)) (fun _ => ⟨pk_in i 14 (by omega), br_t ?_ (nm_r (nI_1 i) (hw () trivial))⟩))
    · rw [nI_clamp (by omega), h8 6 (by omega)]
      exact hd
    · rw [nI_clamp (by omega), h8 i (by omega)]
      unfold ac_F
      rw [if_neg (by omega)]
theorem ac_flt {post : Int32 → St2 → Prop} {x : Int32} (k : Nat) (hx : x = nI k) (hk : k < 9)
    (h : ∀ R : St2 → Prop, (∀ (sz ck wt st aa ch fk oc : Int32) (a1 a2 a3 a4 a5 a6 a7 a8 a9 a10 : Nat → Int32), post (a8 k) (sz, ck, wt, st, aa, ch, fk, oc, a1, a2, a3, a4, a5, a6, a7, a8, a9, a10) → R (sz, ck, wt, st, aa, ch, fk, oc, a1, a2, a3, a4, a5, a6, a7, a8, a9, a10)) → wpX_check R (nI 9, ck, wt, st, aa, ch, fk, oc, a1, a2, a3, a4, a5, a6, a7, a8, a9, a10)) : wpX_faults post (nI 9, ck, wt, st, aa, ch, fk, oc, a1, a2, a3, a4, a5, a6, a7, a8, a9, a10) x := by
  subst hx
  have hc : (nI k).toNatClampNeg = k := nI_clamp (by omega)
  have hi : vp_in (nI k) 14 := vp_in_nI (by omega) (by omega)
  unfold wpX_faults
  dsimp only
  rw [hc]
  exact ac_in k rfl hk (br_f (by decide) (h _ (fun _ _ _ _ _ _ _ _ _ _ _ _ _ _ _ _ _ _ z => ⟨hi, z⟩)))
theorem ac_rch {post : Int32 → St2 → Prop} {x : Int32} (k : Nat) (hx : x = nI k) (hk : k < 9) (h5 : a5 k = 1) (hp : post 1 (nI 9, 1, wt, st, aa, ch, fk, oc, a1, a2, a3, a4, a5, a6, a7, a8, a9, a10)) : wpX_reached post (nI 9, 1, wt, st, aa, ch, fk, oc, a1, a2, a3, a4, a5, a6, a7, a8, a9, a10) x := by
  subst hx
  have hc : (nI k).toNatClampNeg = k := nI_clamp (by omega)
  have hi : vp_in (nI k) 14 := vp_in_nI (by omega) (by omega)
  unfold wpX_reached
  dsimp only
  rw [hc]
  refine ac_in k rfl hk (br_f (by decide) (ac_ckd ?_))
  dsimp only
  rw [h5]
  exact ⟨hi, rfl, hp⟩
theorem ac_pl {post : Int32 → Prop} {x : Int32} (k : Nat) (hx : x = nI k) (hk : k < 5) (hp : post 1) : wpX_isPlace post () x := by
  subst hx
  unfold wpX_isPlace
  exact br_f (nI_pos (by omega)) (br_f (nI_ge (b := 5) hk (by omega)) hp)
theorem ac_vl {post : Int32 → Prop} {x : Int32} (k : Nat) (hx : x = nI k) (hk : k < 4) (hp : post 1) : wpX_isValue post () x := by
  subst hx
  unfold wpX_isValue
  exact br_f (nI_pos (by omega)) (br_f (nI_ge (b := 4) hk (by omega)) hp)
theorem ac_car {post : Int32 → St2 → Prop} {x y : Int32} (k Q : Nat) (hx : x = nI k) (hy : y = nI Q) (hk : k < 9) (hQ : Q < 5) (h5 : a5 k = 1)
    (hp : post (((a6 k >>> ((4 * nI Q) &&& 31)) &&& 15) ||| (((a7 k >>> ((4 * nI Q) &&& 31)) &&& 15) <<< ((4 : Int32) &&& 31))) (nI 9, 1, wt, st, aa, ch, fk, oc, a1, a2, a3, a4, a5, a6, a7, a8, a9, a10)) : wpX_carries post (nI 9, 1, wt, st, aa, ch, fk, oc, a1, a2, a3, a4, a5, a6, a7, a8, a9, a10) x y := by
  subst hx hy
  have hc : (nI k).toNatClampNeg = k := nI_clamp (by omega)
  have hi : vp_in (nI k) 14 := vp_in_nI (by omega) (by omega)
  unfold wpX_carries
  dsimp only
  rw [hc]
  exact ac_pl Q rfl hQ (br_f (by decide) (ac_rch k rfl hk h5 (br_f (by decide) ⟨hi, nm_e ⟨hi, nm_e hp⟩⟩)))
theorem ac_start {post : Int32 → St2 → Prop} {d c : Int32} (h8 : ∀ j, j < 9 → a8 j = ac_F d j) (h0 : d = 0 → ∀ b9, post 1 (nI 9, 1, wt, 1, 0, c, 0, 0, a1, a2, a3, a4, a5, a6, a7, a8, b9, a10)) (h1 : ¬ d = 0 → post 0 (nI 9, 1, wt, st, aa, ch, fk, oc, a1, a2, a3, a4, a5, a6, a7, a8, a9, a10)) : wpX_start post (nI 9, 1, wt, st, aa, ch, fk, oc, a1, a2, a3, a4, a5, a6, a7, a8, a9, a10) c := by
  unfold wpX_start
  dsimp only
  refine ac_sound h8 (fun hd => br_f (by decide) ?_) (fun hd => br_t rfl (h1 hd))
  exact pk_loop (fun n i s => wX_start_36 post (nI 9) 1 wt 1 0 c 0 0 n (nI i) a1 a2 a3 a4 a5 a6 a7 a8 s a10) (fun _ _ => True) 5 0 a9 (by omega) trivial
    (fun n s _ => pk_le 5 5 (fun _ => h0 hd s) (fun z => absurd z (by omega)))
    (fun n i s hi _ hw => pk_le 5 i (fun z => absurd z (by omega)) (fun _ => ⟨pk_in i 5 hi, nm_e (nm_r (nI_1 i) (hw _ trivial))⟩))
end
end
section
section
variable {sz ck wt st aa ch fk oc : Int32} {a1 a2 a3 a4 a5 a6 a7 a8 a9 a10 : Nat → Int32}
theorem ac_put {post : St2 → Prop} {n : Int32} {k j : Nat} (hk : k < 14) (hj : a3 k &&& 7 = nI j) (hj5 : j < 5) (hp : post (sz, ck, wt, st, nI k, ch, fk, oc, a1, a2, a3, a4, a5, a6, a7, a8, upd a9 j n, a10)) : wpX_put post (sz, ck, wt, st, nI k, ch, fk, oc, a1, a2, a3, a4, a5, a6, a7, a8, a9, a10) n := by
  have hc : (nI k).toNatClampNeg = k := nI_clamp (by omega)
  have hi : vp_in (nI k) 14 := vp_in_nI hk (by omega)
  unfold wpX_put
  dsimp only
  rw [hc, hj, nI_clamp (n := j) (by omega)]
  exact ⟨hi, vp_in_nI hj5 (by omega), nm_e hp⟩
theorem ac_po {post : St2 → Prop} {n oc2 : Int32} (ho : oc + 1 = oc2) (hp : ∀ b, b 0 = n → post (sz, ck, wt, st, aa, ch, fk, oc2, a1, a2, a3, a4, a5, a6, a7, a8, a9, b)) : wpX_putOut post (sz, ck, wt, st, aa, ch, fk, oc, a1, a2, a3, a4, a5, a6, a7, a8, a9, a10) n := by
  unfold wpX_putOut
  dsimp only
  refine ⟨8, pk_loopD (fun m i s => wX_putOut_3 post n sz ck wt st aa ch fk oc m (nI i) a1 a2 a3 a4 a5 a6 a7 a8 a9 s) (fun i _ => i < 8) ?_ ?_ 7 a10 (by omega)⟩
  · intro m s _
    exact pk_le 0 0 (fun _ => nm_e (nm_r ho (hp _ rfl))) (fun z => absurd z (by omega))
  · intro m i s hi hw
    have hm : i < 8 := by omega
    exact pk_le (i + 1) 0 (fun z => absurd z (by omega)) (fun _ => ⟨pk_in i 8 hm (nI_pred i), pk_in (i + 1) 8 hi, nm_e (nm_r (pk_m1 i) (hw _ hm))⟩)
theorem ac_ca_e {post : St2 → Prop} {k : Nat} (hk : k < 14) (ho : a1 k = 7) (hp : post (sz, ck, wt, 2, nI k, ch, fk, oc, a1, a2, a3, a4, a5, a6, a7, a8, a9, a10)) : wpX_carry post (sz, ck, wt, st, nI k, ch, fk, oc, a1, a2, a3, a4, a5, a6, a7, a8, a9, a10) := by
  have hc : (nI k).toNatClampNeg = k := nI_clamp (by omega)
  have hi : vp_in (nI k) 14 := vp_in_nI hk (by omega)
  unfold wpX_carry
  dsimp only
  rw [hc]
  exact ⟨hi, nm_r ho ⟨hi, nm_e (nm_r (nI_1 k) (br_t rfl hp))⟩⟩
theorem ac_ca_s {post : St2 → Prop} {n : Int32} {k j : Nat} (hk : k < 14) (ho : a1 k = 0) (hj : a3 k &&& 7 = nI j) (hj5 : j < 5) (hn : a4 k = n) (hp : post (sz, ck, wt, st, nI (k + 1), ch, fk, oc, a1, a2, a3, a4, a5, a6, a7, a8, upd a9 j n, a10)) : wpX_carry post (sz, ck, wt, st, nI k, ch, fk, oc, a1, a2, a3, a4, a5, a6, a7, a8, a9, a10) := by
  have hc : (nI k).toNatClampNeg = k := nI_clamp (by omega)
  have hi : vp_in (nI k) 14 := vp_in_nI hk (by omega)
  subst hn
  unfold wpX_carry
  dsimp only
  rw [hc]
  exact ⟨hi, nm_r ho ⟨hi, nm_e (nm_r (nI_1 k) (br_f (by decide) (br_t rfl ⟨hi, ac_put hk hj hj5 hp⟩)))⟩⟩
theorem ac_ca_a {post : St2 → Prop} {n : Int32} {k j b c : Nat} (hk : k < 14) (ho : a1 k = 1) (hj : a3 k &&& 7 = nI j) (hj5 : j < 5) (hb : (a3 k >>> ((3 : Int32) &&& 31)) &&& 7 = nI b) (hb5 : b < 5) (hd : (a3 k >>> ((6 : Int32) &&& 31)) &&& 7 = nI c) (hd5 : c < 5) (hn : a9 b + a9 c = n) (hp : post (sz, ck, wt, st, nI (k + 1), ch, fk, oc, a1, a2, a3, a4, a5, a6, a7, a8, upd a9 j n, a10)) : wpX_carry post (sz, ck, wt, st, nI k, ch, fk, oc, a1, a2, a3, a4, a5, a6, a7, a8, a9, a10) := by
  have hc : (nI k).toNatClampNeg = k := nI_clamp (by omega)
  have hi : vp_in (nI k) 14 := vp_in_nI hk (by omega)
  subst hn
  unfold wpX_carry
  dsimp only
  rw [hc]
  refine ⟨hi, nm_r ho ⟨hi, nm_r hb (nm_r (nI_1 k) (br_f (by decide) (br_f (by decide) (br_t rfl ⟨hi, nm_r hd ⟨vp_in_nI hb5 (by omega), vp_in_nI hd5 (by omega), ac_put hk hj hj5 ?_⟩⟩))))⟩⟩
  rw [nI_clamp (n := b) (by omega), nI_clamp (n := c) (by omega)]
  exact hp
theorem ac_ca_m {post : St2 → Prop} {n : Int32} {k j b : Nat} (hk : k < 14) (ho : a1 k = 2) (hj : a3 k &&& 7 = nI j) (hj5 : j < 5) (hb : (a3 k >>> ((3 : Int32) &&& 31)) &&& 7 = nI b) (hb5 : b < 5) (hn : a9 b = n) (hp : post (sz, ck, wt, st, nI (k + 1), ch, fk, oc, a1, a2, a3, a4, a5, a6, a7, a8, upd a9 j n, a10)) : wpX_carry post (sz, ck, wt, st, nI k, ch, fk, oc, a1, a2, a3, a4, a5, a6, a7, a8, a9, a10) := by
  have hc : (nI k).toNatClampNeg = k := nI_clamp (by omega)
  have hi : vp_in (nI k) 14 := vp_in_nI hk (by omega)
  subst hn
  unfold wpX_carry
  dsimp only
  rw [hc]
  refine ⟨hi, nm_r ho ⟨hi, nm_r hb (nm_r (nI_1 k) (br_f (by decide) (br_f (by decide) (br_f (by decide) (br_t rfl ⟨vp_in_nI hb5 (by omega), ac_put hk hj hj5 ?_⟩)))))⟩⟩
  rw [nI_clamp (n := b) (by omega)]
  exact hp
theorem ac_ca_o {post : St2 → Prop} {n oc2 : Int32} {k b : Nat} (hk : k < 14) (ho : a1 k = 3) (hb : (a3 k >>> ((3 : Int32) &&& 31)) &&& 7 = nI b) (hb5 : b < 5) (hn : a9 b = n) (hq : oc + 1 = oc2) (hp : ∀ w, w 0 = n → post (sz, ck, wt, st, nI (k + 1), ch, fk, oc2, a1, a2, a3, a4, a5, a6, a7, a8, a9, w)) : wpX_carry post (sz, ck, wt, st, nI k, ch, fk, oc, a1, a2, a3, a4, a5, a6, a7, a8, a9, a10) := by
  have hc : (nI k).toNatClampNeg = k := nI_clamp (by omega)
  have hi : vp_in (nI k) 14 := vp_in_nI hk (by omega)
  subst hn
  unfold wpX_carry
  dsimp only
  rw [hc]
  refine ⟨hi, nm_r ho ⟨hi, nm_r hb (nm_r (nI_1 k) (br_f (by decide) (br_f (by decide) (br_f (by decide) (br_f (by decide) (br_t rfl ⟨vp_in_nI hb5 (by omega), ac_po hq (fun w hw => ?_)⟩))))))⟩⟩
  rw [nI_clamp (n := b) (by omega)] at hw
  exact hp w hw
theorem ac_ca_j {post : St2 → Prop} {t : Int32} {k : Nat} (hk : k < 14) (ho : a1 k = 6) (ht : a4 k = t) (hp : post (sz, ck, wt, st, t, ch, fk, oc, a1, a2, a3, a4, a5, a6, a7, a8, a9, a10)) : wpX_carry post (sz, ck, wt, st, nI k, ch, fk, oc, a1, a2, a3, a4, a5, a6, a7, a8, a9, a10) := by
  have hc : (nI k).toNatClampNeg = k := nI_clamp (by omega)
  have hi : vp_in (nI k) 14 := vp_in_nI hk (by omega)
  unfold wpX_carry
  dsimp only
  rw [hc]
  refine ⟨hi, nm_r ho ⟨hi, nm_e (nm_r (nI_1 k) (br_f (by decide) (br_f (by decide) (br_f (by decide) (br_f (by decide) (br_f (by decide) (br_t rfl ?_)))))))⟩⟩
  unfold wX_carry_161
  rw [hc]
  exact ⟨hi, nm_r ht hp⟩
theorem ac_ca_n {post : St2 → Prop} {k : Nat} (hk : k < 14) (ho : a1 k = 4) (hp : post (sz, ck, wt, st, nI (k + 1), ch, fk, oc, a1, a2, a3, a4, a5, a6, a7, a8, a9, a10)) : wpX_carry post (sz, ck, wt, st, nI k, ch, fk, oc, a1, a2, a3, a4, a5, a6, a7, a8, a9, a10) := by
  have hc : (nI k).toNatClampNeg = k := nI_clamp (by omega)
  have hi : vp_in (nI k) 14 := vp_in_nI hk (by omega)
  unfold wpX_carry
  dsimp only
  rw [hc]
  exact ⟨hi, nm_r ho ⟨hi, nm_e (nm_r (nI_1 k) (br_f (by decide) (br_f (by decide) (br_f (by decide) (br_f (by decide) (br_f (by decide) (br_f (by decide) (br_f (by decide) hp))))))))⟩⟩
theorem ac_ca_f {post : St2 → Prop} {t : Int32} {k : Nat} (hk : k < 14) (ho : a1 k = 5) (ht : a4 k = t) (h0 : ch &&& 1 = 0 → post (sz, ck, wt, st, nI (k + 1), ch, 1, oc, a1, a2, a3, a4, a5, a6, a7, a8, a9, a10)) (h1 : ch &&& 1 = 1 → post (sz, ck, wt, st, t, ch, 1, oc, a1, a2, a3, a4, a5, a6, a7, a8, a9, a10)) : wpX_carry post (sz, ck, wt, st, nI k, ch, 0, oc, a1, a2, a3, a4, a5, a6, a7, a8, a9, a10) := by
  have hc : (nI k).toNatClampNeg = k := nI_clamp (by omega)
  have hi : vp_in (nI k) 14 := vp_in_nI hk (by omega)
  unfold wpX_carry
  dsimp only
  rw [hc]
  refine ⟨hi, nm_r ho ⟨hi, nm_e (nm_r (nI_1 k) (br_f (by decide) (br_f (by decide) (br_f (by decide) (br_f (by decide) (br_f (by decide) (br_f (by decide) (br_t rfl ?_))))))))⟩⟩
  unfold wpX_decide
  dsimp only
  rw [ac_c0]
  refine br_c (fun e => ?_) (fun e => ?_)
  · unfold wX_decide_22
    exact nm_r (show (0 : Int32) + 1 = 1 by decide) ⟨rfl, br_t rfl (h0 e)⟩
  · unfold wX_decide_22
    refine nm_r (show (0 : Int32) + 1 = 1 by decide) ⟨rfl, br_f (by decide) ?_⟩
    unfold wX_carry_161
    rw [hc]
    exact ⟨hi, nm_r ht (h1 ((ac_c1 ch).resolve_left e))⟩
theorem ac_step {post : Int32 → St2 → Prop} {x2 x3 y2 y3 : Int32} {fu : Nat} (h64 : ¬ 64 ≤ x3) (e2 : x2 + 1 = y2) (e3 : x3 + 1 = y3)
    (h : ∀ R : St2 → Prop, (∀ (sz ck wt st aa ch fk oc : Int32) (a1 a2 a3 a4 a5 a6 a7 a8 a9 a10 : Nat → Int32), wX_step_4 post 64 fu y2 y3 sz ck wt st aa ch fk oc a1 a2 a3 a4 a5 a6 a7 a8 a9 a10 → R (sz, ck, wt, st, aa, ch, fk, oc, a1, a2, a3, a4, a5, a6, a7, a8, a9, a10)) → wpX_carry R (sz, ck, wt, 1, aa, ch, fk, oc, a1, a2, a3, a4, a5, a6, a7, a8, a9, a10)) : wX_step_4 post 64 (fu + 1) x2 x3 sz ck wt 1 aa ch fk oc a1 a2 a3 a4 a5 a6 a7 a8 a9 a10 :=
  br_f h64 (br_f h64 (br_t rfl (h _ (fun _ _ _ _ _ _ _ _ _ _ _ _ _ _ _ _ _ _ z => nm_r e2 (nm_r e3 z)))))
theorem ac_stend {post : Int32 → St2 → Prop} {x2 x3 : Int32} {fu : Nat} (h64 : ¬ 64 ≤ x3) (hs : ¬ st = 1) (hp : post x2 (sz, ck, wt, st, aa, ch, fk, oc, a1, a2, a3, a4, a5, a6, a7, a8, a9, a10)) : wX_step_4 post 64 (fu + 1) x2 x3 sz ck wt st aa ch fk oc a1 a2 a3 a4 a5 a6 a7 a8 a9 a10 :=
  br_f h64 (br_f h64 (br_f hs hp))
theorem ac_tail {post : Int32 → St2 → Prop} {P : Nat} {z v : Int32} (hP : P < 5) (hg : ac_Pg (nI P) z (nI P) a1 a2 a3 a4) (hv : a9 P + a9 0 = v)
    (H : ∀ b9 b10, b10 0 = v → post 7 (sz, ck, wt, 2, nI 8, ch, fk, 1, a1, a2, a3, a4, a5, a6, a7, a8, b9, b10)) : wX_step_4 post 64 4 4 4 sz ck wt 1 (nI 6) ch fk 0 a1 a2 a3 a4 a5 a6 a7 a8 a9 a10 := by
  obtain ⟨⟨g10, g11, g12, g13, g14, g15, g16, g17, g18⟩, ⟨g20, g22, g24, g25, g26, g27⟩, ⟨g30, g32, g34, g35, g36, g37⟩, g41, g43⟩ := hg
  obtain ⟨u1, u2, u3, u4, u5⟩ := ac_tA P hP
  refine ac_step (y2 := 5) (y3 := 5) (by decide) (by decide) (by decide) (fun R hR => ac_ca_a (k := 6) (j := 3) (b := P) (c := 0) (n := v) (by omega) g16 (by rw [g36]; exact u2) (by omega) (by rw [g36]; exact u3) hP (by rw [g36, u4]; decide) (by omega) hv (hR _ _ _ _ _ _ _ _ _ _ _ _ _ _ _ _ _ _ ?_))
  refine ac_step (y2 := 6) (y3 := 6) (by decide) (by decide) (by decide) (fun R hR => ac_ca_o (k := 7) (b := 3) (n := v) (oc2 := 1) (by omega) g17 (by rw [g37]; decide) (by omega) rfl (by decide) (fun w hw => hR _ _ _ _ _ _ _ _ _ _ _ _ _ _ _ _ _ _ ?_))
  refine ac_step (y2 := 7) (y3 := 7) (by decide) (by decide) (by decide) (fun R hR => ac_ca_e (k := 8) (by omega) g18 (hR _ _ _ _ _ _ _ _ _ _ _ _ _ _ _ _ _ _ ?_))
  exact ac_stend (by decide) (by decide) (H _ w hw)
theorem ac_run {post : Int32 → St2 → Prop} {P : Nat} {x y : Int32} (hP : P < 5) (hP0 : P ≠ 0) (hg : ac_Pg (nI P) 0 (nI P) a1 a2 a3 a4) (hx : a4 0 = x) (hy : a4 2 = y)
    (H1 : ch &&& 1 = 1 → ∀ b9 b10, b10 0 = x + x → post 7 (sz, ck, wt, 2, nI 8, ch, 1, 1, a1, a2, a3, a4, a5, a6, a7, a8, b9, b10))
    (H0 : ch &&& 1 = 0 → ∀ b9 b10, b10 0 = y + x → post 7 (sz, ck, wt, 2, nI 8, ch, 1, 1, a1, a2, a3, a4, a5, a6, a7, a8, b9, b10)) : wpX_step post (sz, ck, wt, 1, 0, ch, 0, 0, a1, a2, a3, a4, a5, a6, a7, a8, a9, a10) 64 := by
  have hg' := hg
  obtain ⟨⟨g10, g11, g12, g13, g14, g15, g16, g17, g18⟩, ⟨g20, g22, g24, g25, g26, g27⟩, ⟨g30, g32, g34, g35, g36, g37⟩, g41, g43⟩ := hg
  obtain ⟨u1, u2, u3⟩ := ac_tM P hP 0 (by omega)
  unfold wpX_step
  dsimp only
  refine ⟨8, ?_⟩
  refine ac_step (y2 := 1) (y3 := 1) (by decide) (by decide) (by decide) (fun R hR => ac_ca_s (k := 0) (j := 0) (n := x) (by omega) g10 (by rw [g30]; decide) (by omega) hx (hR _ _ _ _ _ _ _ _ _ _ _ _ _ _ _ _ _ _ ?_))
  refine ac_step (y2 := 2) (y3 := 2) (by decide) (by decide) (by decide) (fun R hR => ac_ca_f (k := 1) (t := nI 4) (by omega) g11 g41 (fun e => hR _ _ _ _ _ _ _ _ _ _ _ _ _ _ _ _ _ _ ?_) (fun e => hR _ _ _ _ _ _ _ _ _ _ _ _ _ _ _ _ _ _ ?_))
  · refine ac_step (y2 := 3) (y3 := 3) (by decide) (by decide) (by decide) (fun R hR => ac_ca_s (k := 2) (j := P) (n := y) (by omega) g12 (by rw [g32]; exact (ac_tP P hP).2) hP hy (hR _ _ _ _ _ _ _ _ _ _ _ _ _ _ _ _ _ _ ?_))
    refine ac_step (y2 := 4) (y3 := 4) (by decide) (by decide) (by decide) (fun R hR => ac_ca_j (k := 3) (t := nI 6) (by omega) g13 g43 (hR _ _ _ _ _ _ _ _ _ _ _ _ _ _ _ _ _ _ ?_))
    refine ac_tail hP hg' ?_ (H0 e)
    rw [pk_us, pk_un (Ne.symm hP0), pk_us]
  · refine ac_step (y2 := 3) (y3 := 3) (by decide) (by decide) (by decide) (fun R hR => ac_ca_n (k := 4) (by omega) g14 (hR _ _ _ _ _ _ _ _ _ _ _ _ _ _ _ _ _ _ ?_))
    refine ac_step (y2 := 4) (y3 := 4) (by decide) (by decide) (by decide) (fun R hR => ac_ca_m (k := 5) (j := P) (b := 0) (n := x) (by omega) g15 (by rw [g35]; exact u2) hP (by rw [g35]; exact u3) (by omega) pk_us (hR _ _ _ _ _ _ _ _ _ _ _ _ _ _ _ _ _ _ ?_))
    refine ac_tail hP hg' ?_ (H1 e)
    rw [pk_us, pk_un (Ne.symm hP0), pk_us]
end
end
section
section
variable {sz ck wt st aa ch fk oc : Int32} {a1 a2 a3 a4 a5 a6 a7 a8 a9 a10 : Nat → Int32}
theorem al_app {post : Int32 → St2 → Prop} {op vs ps n o' v' p' : Int32} {k : Nat} (hk : k < 14) (ho : op.toInt8.toInt32 = o') (hv : vs.toInt8.toInt32 = v') (hs : ps.toInt16.toInt32 = p')
    (hp : ∀ r, post r (nI (k + 1), 0, wt, 0, aa, ch, fk, 0, upd a1 k o', upd a2 k v', upd a3 k p', upd a4 k n, a5, a6, a7, a8, a9, a10)) : wpX_append post (nI k, ck, wt, st, aa, ch, fk, oc, a1, a2, a3, a4, a5, a6, a7, a8, a9, a10) op vs ps n := by
  have hc : (nI k).toNatClampNeg = k := nI_clamp (by omega)
  have hi : vp_in (nI k) 14 := vp_in_nI hk (by omega)
  subst ho hv hs
  unfold wpX_append
  dsimp only
  rw [hc]
  refine br_t (nI_lt (b := 14) hk (by omega)) ⟨hi, nm_e ⟨hi, nm_e ⟨hi, nm_e ⟨hi, nm_e (nm_r (nI_1 k) ?_)⟩⟩⟩⟩
  unfold wpX_changed
  exact hp _
theorem al_set {post : Int32 → St2 → Prop} {v p n v' p' : Int32} {k : Nat} (V P : Nat) (hv : v = nI V) (hV : V < 4) (hp : p = nI P) (hP : P < 5) (hk : k < 14) (e1 : v.toInt8.toInt32 = v') (e2 : p.toInt16.toInt32 = p')
    (h : ∀ r, post r (nI (k + 1), 0, wt, 0, aa, ch, fk, 0, upd a1 k 0, upd a2 k v', upd a3 k p', upd a4 k n, a5, a6, a7, a8, a9, a10)) : wpX_set post (nI k, ck, wt, st, aa, ch, fk, oc, a1, a2, a3, a4, a5, a6, a7, a8, a9, a10) v p n := by
  unfold wpX_set
  dsimp only
  exact ac_vl V hv hV (br_f (by decide) (ac_pl P hp hP (br_f (by decide) (al_app hk (by decide) e1 e2 h))))
theorem al_flow {post : Int32 → St2 → Prop} {kd t o' : Int32} {k : Nat} (K : Nat) (hK : kd = nI K) (hK3 : K < 3) (hk : k < 14) (e1 : (5 + kd).toInt8.toInt32 = o')
    (h : ∀ r, post r (nI (k + 1), 0, wt, 0, aa, ch, fk, 0, upd a1 k o', upd a2 k 0, upd a3 k 0, upd a4 k t, a5, a6, a7, a8, a9, a10)) : wpX_flow post (nI k, ck, wt, st, aa, ch, fk, oc, a1, a2, a3, a4, a5, a6, a7, a8, a9, a10) kd t := by
  unfold wpX_flow
  dsimp only
  refine br_f (by rw [hK]; exact nI_pos (by omega)) (br_f (by rw [hK]; exact nI_nlt (a := 2) (by omega) (by omega)) (al_app hk e1 (by decide) (by decide) h))
theorem al_same {post : Int32 → St2 → Prop} {k : Nat} (hk : k < 14)
    (h : ∀ r, post r (nI (k + 1), 0, wt, 0, aa, ch, fk, 0, upd a1 k 4, upd a2 k 1, upd a3 k 0, upd a4 k 0, a5, a6, a7, a8, a9, a10)) : wpX_same post (nI k, ck, wt, st, aa, ch, fk, oc, a1, a2, a3, a4, a5, a6, a7, a8, a9, a10) 1 0 := by
  unfold wpX_same
  dsimp only
  exact ac_vl 1 rfl (by omega) (br_f (by decide) (ac_vl 0 rfl (by omega) (br_f (by decide) (al_app hk (by decide) (by decide) (by decide) h))))
theorem al_move {post : Int32 → St2 → Prop} {p z : Int32} {k : Nat} (P Z : Nat) (hp : p = nI P) (hP : P < 5) (hz : z = nI Z) (hZ : Z < 5) (hk : k < 14)
    (h : ∀ r, post r (nI (k + 1), 0, wt, 0, aa, ch, fk, 0, upd a1 k 2, upd a2 k 0, upd a3 k (p + 8 * z), upd a4 k 0, a5, a6, a7, a8, a9, a10)) : wpX_move post (nI k, ck, wt, st, aa, ch, fk, oc, a1, a2, a3, a4, a5, a6, a7, a8, a9, a10) p z := by
  unfold wpX_move
  dsimp only
  exact ac_pl P hp hP (br_f (by decide) (ac_pl Z hz hZ (br_f (by decide) (al_app hk (by decide) (by decide) (by rw [hp, hz]; exact (ac_tM P hP Z hZ).1) h))))
theorem al_add {post : Int32 → St2 → Prop} {Q k : Nat} (hQ : Q < 5) (hk : k < 14)
    (h : ∀ r, post r (nI (k + 1), 0, wt, 0, aa, ch, fk, 0, upd a1 k 1, upd a2 k 6, upd a3 k (3 + 8 * nI Q), upd a4 k 0, a5, a6, a7, a8, a9, a10)) : wpX_add post (nI k, ck, wt, st, aa, ch, fk, oc, a1, a2, a3, a4, a5, a6, a7, a8, a9, a10) 6 (3 + 8 * nI Q) := by
  obtain ⟨u1, u2, u3, u4, u5⟩ := ac_tA Q hQ
  unfold wpX_add
  dsimp only
  refine br_f (by decide) (br_f (by decide) (br_f u5 ?_))
  unfold wX_add_19
  exact br_f (by decide) (ac_pl 3 u2 (by omega) (br_f (by decide) (ac_pl Q u3 hQ (br_f (by decide) (ac_pl 0 u4 (by omega) (br_f (by decide) (al_app hk (by decide) (by decide) u1 h)))))))
theorem al_out {post : Int32 → St2 → Prop} {k : Nat} (hk : k < 14)
    (h : ∀ r, post r (nI (k + 1), 0, wt, 0, aa, ch, fk, 0, upd a1 k 3, upd a2 k 8, upd a3 k 24, upd a4 k 0, a5, a6, a7, a8, a9, a10)) : wpX_out post (nI k, ck, wt, st, aa, ch, fk, oc, a1, a2, a3, a4, a5, a6, a7, a8, a9, a10) 2 3 := by
  unfold wpX_out
  dsimp only
  exact ac_vl 2 rfl (by omega) (br_f (by decide) (ac_pl 3 rfl (by omega) (br_f (by decide) (al_app hk (by decide) (by decide) (by decide) h))))
end
section
variable {sz ck wt st aa ch fk oc : Int32} {a1 a2 a3 a4 a5 a6 a7 a8 a9 a10 : Nat → Int32}
variable {post : Int32 → St0 → Prop} {mc ms kc ks : Nat} {x y c p q m lf rt ze d1 d2 due a0 s0 b1 : Int32}
theorem al_275 (h : wL_lawOf_292 post mc ms x y c q due a0 s0 b1 (al_s1 lf rt) kc ks sz ck wt st aa ch fk oc a1 a2 a3 a4 a5 a6 a7 a8 a9 a10) : wL_lawOf_275 post mc ms x y c q lf rt due a0 s0 b1 kc ks sz ck wt st aa ch fk oc a1 a2 a3 a4 a5 a6 a7 a8 a9 a10 := by
  unfold wL_lawOf_275
  unfold al_s1 at h
  exact br_c (fun e => by rw [if_pos e] at h; exact br_c (fun e2 => by rw [if_pos e2] at h; exact h) (fun e2 => by rw [if_neg e2] at h; exact h)) (fun e => by rw [if_neg e] at h; exact h)
theorem al_258 (h : wL_lawOf_275 post mc ms x y c q lf rt due a0 s0 (al_a1 lf rt) kc ks sz ck wt st aa ch fk oc a1 a2 a3 a4 a5 a6 a7 a8 a9 a10) : wL_lawOf_258 post mc ms x y c q lf rt due a0 s0 kc ks sz ck wt st aa ch fk oc a1 a2 a3 a4 a5 a6 a7 a8 a9 a10 := by
  unfold wL_lawOf_258
  unfold al_a1 at h
  exact br_c (fun e => by rw [if_pos e] at h; exact h) (fun e => by rw [if_neg e] at h; exact br_c (fun e2 => by rw [if_pos e2] at h; exact h) (fun e2 => by rw [if_neg e2] at h; exact h))
theorem al_234 (h : wL_lawOf_258 post mc ms x y c q lf rt due a0 (al_rt p q m) kc ks sz ck wt st aa ch fk oc a1 a2 a3 a4 a5 a6 a7 a8 a9 a10) : wL_lawOf_234 post mc ms x y c p q m lf rt due a0 kc ks sz ck wt st aa ch fk oc a1 a2 a3 a4 a5 a6 a7 a8 a9 a10 := by
  unfold wL_lawOf_234
  unfold al_rt at h
  refine br_c (fun e => ?_) (fun e => ?_)
  · rw [if_pos e] at h; exact h
  rw [if_neg e] at h
  refine br_c (fun e => ?_) (fun e => ?_)
  · rw [if_pos e] at h; exact h
  rw [if_neg e] at h
  refine br_c (fun e => ?_) (fun e => ?_)
  · rw [if_pos e] at h; exact h
  rw [if_neg e] at h
  exact h
theorem al_216 (h : wL_lawOf_234 post mc ms x y c p q m lf rt (d1 + d2) (al_a0 q ze) kc ks sz ck wt st aa ch fk oc a1 a2 a3 a4 a5 a6 a7 a8 a9 a10) : wL_lawOf_216 post mc ms x y c p q m lf rt ze d2 d1 kc ks sz ck wt st aa ch fk oc a1 a2 a3 a4 a5 a6 a7 a8 a9 a10 := by
  unfold wL_lawOf_216
  unfold al_a0 at h
  exact nm_e (br_c (fun e => by rw [if_pos e] at h; exact br_c (fun e2 => by rw [if_pos e2] at h; exact h) (fun e2 => by rw [if_neg e2] at h; exact h)) (fun e => by rw [if_neg e] at h; exact h))
theorem al_206 (h : wL_lawOf_216 post mc ms x y c p q m lf rt ze (al_d2 ze) d1 kc ks sz ck wt st aa ch fk oc a1 a2 a3 a4 a5 a6 a7 a8 a9 a10) : wL_lawOf_206 post mc ms x y c p q m lf rt ze d1 kc ks sz ck wt st aa ch fk oc a1 a2 a3 a4 a5 a6 a7 a8 a9 a10 := by
  unfold wL_lawOf_206
  unfold al_d2 at h
  exact br_c (fun e => by rw [if_pos e] at h; exact h) (fun e => by rw [if_neg e] at h; exact h)
theorem al_189 (h : wL_lawOf_206 post mc ms x y c p q m lf rt ze (al_d1 lf rt) kc ks sz ck wt st aa ch fk oc a1 a2 a3 a4 a5 a6 a7 a8 a9 a10) : wL_lawOf_189 post mc ms x y c p q m lf rt ze kc ks sz ck wt st aa ch fk oc a1 a2 a3 a4 a5 a6 a7 a8 a9 a10 := by
  unfold wL_lawOf_189
  unfold al_d1 at h
  exact br_c (fun e => by rw [if_pos e] at h; exact h) (fun e => by rw [if_neg e] at h; exact br_c (fun e2 => by rw [if_pos e2] at h; exact h) (fun e2 => by rw [if_neg e2] at h; exact h))
theorem al_177 (h : wL_lawOf_189 post mc ms x y c p q m lf rt (al_ze p) kc ks sz ck wt st aa ch fk oc a1 a2 a3 a4 a5 a6 a7 a8 a9 a10) : wL_lawOf_177 post mc ms x y c p q m lf rt kc ks sz ck wt st aa ch fk oc a1 a2 a3 a4 a5 a6 a7 a8 a9 a10 := by
  unfold wL_lawOf_177
  unfold al_ze at h
  exact br_c (fun e => by rw [if_pos e] at h; exact h) (fun e => by rw [if_neg e] at h; exact h)
theorem al_153 (h : wL_lawOf_177 post mc ms x y c p q m lf (al_rt p q m) kc ks sz ck wt st aa ch fk oc a1 a2 a3 a4 a5 a6 a7 a8 a9 a10) : wL_lawOf_153 post mc ms x y c p q m lf kc ks sz ck wt st aa ch fk oc a1 a2 a3 a4 a5 a6 a7 a8 a9 a10 := by
  unfold wL_lawOf_153
  unfold al_rt at h
  refine br_c (fun e => ?_) (fun e => ?_)
  · rw [if_pos e] at h; exact h
  rw [if_neg e] at h
  refine br_c (fun e => ?_) (fun e => ?_)
  · rw [if_pos e] at h; exact h
  rw [if_neg e] at h
  refine br_c (fun e => ?_) (fun e => ?_)
  · rw [if_pos e] at h; exact h
  rw [if_neg e] at h
  exact h
theorem al_law (h : wL_lawOf_292 post mc ms x y c q (al_due p q m) (al_a0 q (al_ze p)) (al_rt p q m) (al_a1 (al_lf p q) (al_rt p q m)) (al_s1 (al_lf p q) (al_rt p q m)) kc ks sz ck wt st aa ch fk oc a1 a2 a3 a4 a5 a6 a7 a8 a9 a10) : wL_lawOf_153 post mc ms x y c p q m (al_lf p q) kc ks sz ck wt st aa ch fk oc a1 a2 a3 a4 a5 a6 a7 a8 a9 a10 :=
  al_153 (al_177 (al_189 (al_206 (al_216 (al_234 (al_258 (al_275 h)))))))
theorem al_bz {W : Int32 → Prop} (h : W (al_z m p)) : (m = 0 → W p) ∧ (¬ m = 0 → W 0) := by
  unfold al_z at h
  exact br_c (fun e => by rw [if_pos e] at h; exact h) (fun e => by rw [if_neg e] at h; exact h)
theorem al_bl {W : Int32 → Prop} (h : W (al_lf p q)) : (q = p → W 1) ∧ (¬ q = p → W 0) := by
  unfold al_lf at h
  exact br_c (fun e => by rw [if_pos e] at h; exact h) (fun e => by rw [if_neg e] at h; exact h)
end
end
section
section
variable {sz ck wt st aa ch fk oc : Int32} {a1 a2 a3 a4 a5 a6 a7 a8 a9 a10 : Nat → Int32}
variable {post : Int32 → St0 → Prop} {mc ms kc ks : Nat} {x y c : Int32}
theorem al_on {d v : Int32} (hpost : post 1 ()) (hd : d = 0) (hv : a10 0 = v) : wL_lawOf_411 post mc ms d 1 1 7 v kc ks sz ck wt 2 aa ch fk 1 a1 a2 a3 a4 a5 a6 a7 a8 a9 a10 := by
  unfold wL_lawOf_411
  refine br_f (by decide) (br_t hd ?_)
  unfold wL_lawOf_434
  refine br_t rfl (br_f (by decide) ?_)
  unfold wL_lawOf_450
  refine br_t rfl ?_
  unfold wpX_status
  dsimp only
  refine br_f (by decide) ?_
  unfold wL_lawOf_468
  refine br_t rfl ?_
  unfold wpX_outs
  dsimp only
  refine br_f (by decide) ?_
  unfold wL_lawOf_486
  refine br_t rfl ?_
  unfold wpX_lastOut
  dsimp only
  refine br_f (by decide) (br_f (by decide) (br_t (by decide) ⟨pk_in 0 8 (by omega), br_f (by decide) ?_⟩))
  unfold wL_lawOf_506
  exact br_t hv hpost
theorem al_off {d v : Int32} (hpost : post 1 ()) (hd : ¬ d = 0) : wL_lawOf_411 post mc ms d 1 0 0 v kc ks sz ck wt 0 aa ch fk 0 a1 a2 a3 a4 a5 a6 a7 a8 a9 a10 := by
  unfold wL_lawOf_411
  refine br_f (by decide) (br_f hd ?_)
  unfold wL_lawOf_434
  refine br_t rfl (br_t rfl ?_)
  unfold wL_lawOf_450
  refine br_t rfl ?_
  unfold wpX_status
  dsimp only
  refine br_t rfl ?_
  unfold wL_lawOf_468
  refine br_t rfl ?_
  unfold wpX_outs
  dsimp only
  refine br_t rfl ?_
  unfold wL_lawOf_486
  refine br_t rfl ?_
  unfold wpX_lastOut
  dsimp only
  refine br_f (by decide) (br_f (by decide) (br_f (by decide) (br_t rfl ?_)))
  unfold wL_lawOf_506
  exact br_t rfl hpost
theorem al_376 {P M Q : Nat} (hP : P < 5) (hM : M < 2) (hQ : Q < 5) (hg : ac_Pg (nI P) (al_z (nI M) (nI P)) (nI Q) a1 a2 a3 a4) (hx : a4 0 = x) (hy : a4 2 = y)
    (h8 : ∀ j, j < 9 → a8 j = ac_F (al_due (nI P) (nI Q) (nI M)) j) (hpost : post 1 ()) : wL_lawOf_376 post mc ms x y c (al_due (nI P) (nI Q) (nI M)) 1 kc ks (nI 9) 1 wt 0 aa ch fk 0 a1 a2 a3 a4 a5 a6 a7 a8 a9 a10 := by
  unfold wL_lawOf_376
  refine ac_start h8 (fun hd b9 => ?_) (fun hd => ?_)
  · obtain ⟨hP0, hq, hm⟩ := ac_tD P hP M hM Q hQ hd
    subst hq hm
    refine ac_run hQ hP0 hg hx hy (fun e b9 b10 hb => br_t e ?_) (fun e b9 b10 hb => br_f (by rw [e]; decide) ?_)
    · exact al_on hpost hd hb
    · exact al_on hpost hd hb
  · unfold wpX_step
    dsimp only
    exact ⟨1, ac_stend (by decide) (by decide) (br_c (fun _ => al_off hpost hd) (fun _ => al_off hpost hd))⟩
theorem al_292 {P M Q : Nat} (hP : P < 5) (hM : M < 2) (hQ : Q < 5) (hg : ac_Pg (nI P) (al_z (nI M) (nI P)) (nI Q) a1 a2 a3 a4) (hx : a4 0 = x) (hy : a4 2 = y) (hpost : post 1 ()) :
    wL_lawOf_292 post mc ms x y c (nI Q) (al_due (nI P) (nI Q) (nI M)) (al_a0 (nI Q) (al_ze (nI P))) (al_rt (nI P) (nI Q) (nI M)) (al_a1 (al_lf (nI P) (nI Q)) (al_rt (nI P) (nI Q) (nI M))) (al_s1 (al_lf (nI P) (nI Q)) (al_rt (nI P) (nI Q) (nI M))) kc ks (nI 9) 0 wt 0 aa ch fk 0 a1 a2 a3 a4 a5 a6 a7 a8 a9 a10 := by
  unfold wL_lawOf_292
  refine ac_flt 6 rfl (by omega) (fun R hR => ac_check hP hM hQ hg (fun b5 b6 b7 b8 hc h8 => hR _ _ _ _ _ _ _ _ _ _ _ _ _ _ _ _ _ _ ?_))
  obtain ⟨c5, c6, c7, c8⟩ := hc
  refine br_t (h8 6 (by omega)) ?_
  refine ac_car 6 Q rfl rfl (by omega) hQ (c5 6 (by omega)) ?_
  refine br_t (by rw [c6, c7]; exact ac_tC P hP M hM Q hQ) ?_
  refine ac_rch 8 rfl (by omega) (c5 8 (by omega)) ?_
  refine br_f (by decide) ?_
  refine ac_flt 7 rfl (by omega) (fun R hR => ac_ckd (hR _ _ _ _ _ _ _ _ _ _ _ _ _ _ _ _ _ _ ?_))
  refine br_t (h8 7 (by omega)) ?_
  refine ac_sound h8 (fun hd => br_t hd ?_) (fun hd => br_f hd ?_)
  · unfold wL_lawOf_368
    exact br_t rfl (al_376 hP hM hQ hg hx hy h8 hpost)
  · unfold wL_lawOf_368
    exact br_t rfl (al_376 hP hM hQ hg hx hy h8 hpost)
theorem al_45 {P M Q : Nat} (hP : P < 5) (hM : M < 2) (hQ : Q < 5) (hpost : post 1 ()) : wL_lawOf_45 post mc ms x y c (nI P) (nI Q) (nI M) kc ks (nI 0) ck wt st aa ch fk oc a1 a2 a3 a4 a5 a6 a7 a8 a9 a10 := by
  obtain ⟨Z, hZ, hz⟩ : ∃ Z, Z < 5 ∧ al_z (nI M) (nI P) = nI Z := by
    unfold al_z
    by_cases e : nI M = 0
    · exact ⟨P, hP, by rw [if_pos e]⟩
    · exact ⟨0, by omega, by rw [if_neg e]; rfl⟩
  unfold wL_lawOf_45
  refine al_set (v' := 0) (p' := 0) 0 0 rfl (by omega) rfl (by omega) (by omega) (by decide) (by decide) (fun _ => ?_)
  refine al_flow (o' := 5) 0 rfl (by omega) (by omega) (by decide) (fun _ => ?_)
  refine al_set (v' := 1) (p' := nI P) 1 P rfl (by omega) rfl hP (by omega) (by decide) (ac_tP P hP).1 (fun _ => ?_)
  refine al_flow (o' := 6) 1 rfl (by omega) (by omega) (by decide) (fun _ => ?_)
  refine al_same (by omega) (fun _ => ?_)
  refine al_bz (W := fun z => wL_lawOf_106 post mc ms x y c (nI P) (nI Q) (nI M) z (nI P) kc ks _ _ _ _ _ _ _ _ _ _ _ _ _ _ _ _ _ _) ?_
  unfold wL_lawOf_106
  refine al_move P Z rfl hP hz hZ (by omega) (fun _ => ?_)
  refine al_add hQ (by omega) (fun _ => ?_)
  refine al_out (by omega) (fun _ => ?_)
  refine al_flow (o' := 7) 2 rfl (by omega) (by omega) (by decide) (fun _ => ?_)
  refine al_bl (W := fun z => wL_lawOf_153 post mc ms x y c (nI P) (nI Q) (nI M) z kc ks _ _ _ _ _ _ _ _ _ _ _ _ _ _ _ _ _ _) ?_
  exact al_law (al_292 hP hM hQ ⟨⟨rfl, rfl, rfl, rfl, rfl, rfl, rfl, rfl, rfl⟩, ⟨rfl, rfl, rfl, rfl, rfl, rfl⟩, ⟨rfl, rfl, rfl, rfl, rfl, rfl⟩, rfl, rfl⟩ rfl rfl hpost)
end
theorem al_rem (w : Int32) : ∃ j, j < 5 ∧ (w &&& 255) - (w &&& 255) / 5 * 5 = nI j := by
  obtain ⟨j, hj, e⟩ := pk_andE w (m := 255) 8 (by decide)
  rw [e]
  exact ⟨j % 5, Nat.mod_lt _ (by omega), pk_rem (d := 5) (by omega) (by omega) (by omega)⟩
theorem al_cell {post : Int32 → Prop} {L : Nat} {xs : Nat → Int32} {x : Int32} (k : Nat) (hx : x = nI k) (hk : k < 4) (hL : L ≤ 4) (h : ∀ v, post v) : wpL_cellAt post L xs () x := by
  subst hx
  unfold wpL_cellAt
  exact pk_le L k (fun _ => h 0) (fun z => ⟨vp_in_nI z (by omega), h _⟩)
theorem al_lawOf {post : Int32 → St0 → Prop} (x y w c : Int32) (hpost : post 1 ()) : wpL_lawOf post 72 1136 () x y w c := by
  unfold wpL_lawOf
  refine ⟨by omega, by omega, 71, 1118, by omega, by omega, ?_⟩
  unfold wpX_init
  dsimp only
  refine ⟨by omega, by omega, by omega, by omega, by omega, by omega, by omega, by omega, by omega, by omega, by omega, by omega, by omega, by omega, by omega, by omega, by omega, by omega, by omega, by omega, ?_⟩
  obtain ⟨P, hP, eP⟩ := al_rem w
  obtain ⟨Q, hQ, eQ⟩ := al_rem (w >>> ((8 : Int32) &&& 31))
  refine ⟨by decide, nm_r eP ⟨by decide, nm_r eQ (br_c (fun _ => ?_) (fun _ => ?_))⟩⟩
  · exact al_45 (M := 1) hP (by omega) hQ hpost
  · exact al_45 (M := 0) hP (by omega) hQ hpost
theorem i_vc (xs : Nat → Int32) (L : Nat) (hL : L ≤ 4) : wpL_law (fun r => r = 1) L xs := by
  unfold wpL_law
  exact al_cell 0 rfl (by omega) hL (fun v1 => al_cell 1 rfl (by omega) hL (fun v2 => al_cell 2 rfl (by omega) hL (fun v3 => al_cell 3 rfl (by omega) hL (fun v4 => ⟨72, 1136, by omega, by omega, al_lawOf v1 v2 v3 v4 rfl⟩))))
end
