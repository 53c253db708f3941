section
section
variable {d c k u : Int32} {a1 a2 a3 a4 a5 a6 a7 a8 a9 a10 a11 a12 a13 : Nat → Int32}
/-- a rule of one premise in row r: its head h, its strength s, its premise p, negated where g = 1 -/
def cz_R (a1 a2 a3 a4 a5 : Nat → Int32) (r h s p g : Nat) : Prop :=
  a1 r = nI h ∧ a2 r = nI s ∧ a3 r = nI 1 ∧ a4 (3 * r) = nI p ∧ a5 (3 * r) = nI g
def cz_g (g v : Nat) : Nat := if g = 0 then v else 100 - v
/-- what a rule is worth whose premise has the value v -/
def cz_w (g v s : Nat) : Nat := cz_g g v * s / 100
theorem cz_us {f : Nat → Int32} {i : Nat} {x : Int32} (h : f i = x) : upd f i x = f := by
  funext j
  by_cases e : j = i
  · rw [e, pk_us, h]
  · rw [pk_un e]
theorem cz_3 (r : Nat) : (3 : Int32) * nI r + 0 = nI (3 * r) := by
  have h : nI 3 * nI r + nI 0 = nI (3 * r) := by rw [pk_mul, nI_add, Nat.add_zero]
  exact h
theorem cz_mds {q s : Nat} (hq : q ≤ 100) (hs : s ≤ 100) : nI q * nI s / 100 = nI (q * s / 100) := by
  have hb : q * s ≤ 100 * 100 := Nat.mul_le_mul hq hs
  have h : nI q * nI s / nI 100 = nI (q * s / 100) := by
    rw [pk_mul, pk_div (by omega) (by omega) (by omega)]
  exact h
theorem cz_100 {q : Nat} (hq : q ≤ 100) : (100 : Int32) - nI q = nI (100 - q) := pk_sub (a := 100) hq
theorem cz_gle {g v : Nat} (hv : v ≤ 100) : cz_g g v ≤ 100 := by
  unfold cz_g
  split <;> omega
theorem cz_wle {g v s : Nat} (hv : v ≤ 100) (hs : s ≤ 100) : cz_w g v s ≤ 100 := by
  have hb : cz_g g v * s ≤ 100 * 100 := Nat.mul_le_mul (cz_gle hv) hs
  unfold cz_w
  omega
theorem cz_nm1 {n : Nat} (h : n < 2 ^ 31) : ¬ nI n = (-1 : Int32) := by
  intro e
  have p := nI_pos h
  rw [e] at p
  exact p (by decide)
theorem cz_worthE {post : Int32 → Prop} {r h s p g q n : Nat} (hr : r < 20) (R : cz_R a1 a2 a3 a4 a5 r h s p g) (hs : s ≤ 100) (hq : q ≤ 100)
    (H : post (nI (q * s / 100))) : wX_worth_5 post (nI r) d c k u a1 a2 a3 a4 a5 a6 a7 a8 a9 a10 a11 a12 a13 (n + 1) (nI q) (nI 1) := by
  have e : (nI r).toNatClampNeg = r := nI_clamp (by omega)
  refine ⟨pk_in r 20 hr, pk_le 1 1 (fun _ => ⟨pk_in r 20 hr, by decide, ?_⟩) (fun z => absurd z (by omega)) (by rw [e]; exact R.2.2.1) rfl⟩
  rw [e, R.2.1, cz_mds hq hs]
  exact H
theorem cz_worth55 {post : Int32 → Prop} {r h s p g q n : Nat} (hr : r < 20) (R : cz_R a1 a2 a3 a4 a5 r h s p g) (hs : s ≤ 100) (hq : q ≤ 100)
    (H : post (nI (q * s / 100))) : wX_worth_55 post (wX_worth_5 post (nI r) d c k u a1 a2 a3 a4 a5 a6 a7 a8 a9 a10 a11 a12 a13 (n + 1)) (nI r) 100 0 (nI q) d c k u a1 a2 a3 a4 a5 a6 a7 a8 a9 a10 a11 a12 a13 := by
  refine pk_le 100 q (fun z => nm_r (nI_1 0) ?_) (fun z => nm_r (nI_1 0) (cz_worthE hr R hs hq H))
  have hq' : q = 100 := by omega
  subst hq'
  exact cz_worthE hr R hs hq H
theorem cz_worth {post : Int32 → Prop} {r h s p g v : Nat} (hr : r < 20) (R : cz_R a1 a2 a3 a4 a5 r h s p g) (hp : p < 16) (hs : s ≤ 100) (hv : v ≤ 100) (hg : g ≤ 1) (hval : a9 p = nI v)
    (H : post (nI (cz_w g v s))) : wpX_worth post (d, c, k, u, a1, a2, a3, a4, a5, a6, a7, a8, a9, a10, a11, a12, a13) (nI r) := by
  have e : (nI r).toNatClampNeg = r := nI_clamp (by omega)
  have e3 : ((3 : Int32) * nI r + 0).toNatClampNeg = 3 * r := by rw [cz_3, nI_clamp (by omega)]
  have e4 : a4 ((3 : Int32) * nI r + 0).toNatClampNeg = nI p := by rw [e3]; exact R.2.2.2.1
  have e5 : a5 ((3 : Int32) * nI r + 0).toNatClampNeg = nI g := by rw [e3]; exact R.2.2.2.2
  have i3 : vp_in ((3 : Int32) * nI r + 0) 60 := pk_in (3 * r) 60 (by omega) (cz_3 r)
  have i4 : vp_in (a4 ((3 : Int32) * nI r + 0).toNatClampNeg) 16 := pk_in p 16 hp e4
  have e9 : a9 (a4 ((3 : Int32) * nI r + 0).toNatClampNeg).toNatClampNeg = nI v := by rw [e4, nI_clamp (by omega)]; exact hval
  refine ⟨1 + 1, pk_in r 20 hr, pk_le 1 0 (fun z => absurd z (by omega)) (fun _ => ⟨i3, i4, nm_r e9 ⟨i3, pk_eq g 0 (fun z => ?_) (fun z => ?_) e5 rfl⟩⟩) (by rw [e]; exact R.2.2.1) rfl⟩
  · have hw : cz_w g v s = v * s / 100 := by rw [cz_w, cz_g, if_pos z]
    rw [hw] at H
    exact cz_worth55 (n := 0) hr R hs hv H
  · have hw : cz_w g v s = (100 - v) * s / 100 := by rw [cz_w, cz_g, if_neg z]
    rw [hw] at H
    rw [cz_100 hv]
    exact cz_worth55 (n := 0) hr R hs (by omega) H
theorem cz_offer {post : St2 → Prop} {r h s p g v : Nat} (hr : r < 20) (R : cz_R a1 a2 a3 a4 a5 r h s p g) (hh : h < 16) (hp : p < 16) (hs : s ≤ 100) (hv : v ≤ 100) (hg : g ≤ 1) (hval : a9 p = nI v)
    (hst : a11 h = 0) (ho : a10 h = nI 0) (H : post (d, c, k, u, a1, a2, a3, a4, a5, a6, a7, a8, a9, upd a10 h (nI (if nI r = k then 0 else cz_w g v s)), a11, a12, a13)) : wpX_makeOffer post (d, c, k, u, a1, a2, a3, a4, a5, a6, a7, a8, a9, a10, a11, a12, a13) (nI r) := by
  have e : (nI r).toNatClampNeg = r := nI_clamp (by omega)
  have eh : (nI h).toNatClampNeg = h := nI_clamp (by omega)
  have hwl : cz_w g v s ≤ 100 := cz_wle hv hs
  refine ⟨pk_in r 20 hr, nm_r (e' := nI h) (by rw [e]; exact R.1) ?_⟩
  by_cases hk : nI r = k
  · rw [if_pos hk, cz_us ho] at H
    exact br_t hk H
  · rw [if_neg hk] at H
    refine br_f hk ⟨pk_in h 16 hh, br_t (by rw [eh]; exact hst) (cz_worth hr R hp hs hv hg hval ⟨pk_in h 16 hh, ?_⟩)⟩
    refine pk_le (cz_w g v s) 0 (fun z => ?_) (fun z => ⟨pk_in h 16 hh, nm_r (by rw [eh]) H⟩) rfl (by rw [eh]; exact ho)
    have hz : cz_w g v s = 0 := by omega
    rw [hz, cz_us ho] at H
    exact H
theorem cz_skip {post : St2 → Prop} {r h s p g m : Nat} (hr : r < 20) (R : cz_R a1 a2 a3 a4 a5 r h s p g) (hp : p < 16) (hm : m < 16) (hpm : p ≠ m)
    (H : post (d, c, k, u, a1, a2, a3, a4, a5, a6, a7, a8, a9, a10, a11, a12, a13)) : wpX_count post (d, c, k, u, a1, a2, a3, a4, a5, a6, a7, a8, a9, a10, a11, a12, a13) (nI r) (nI m) := by
  have e : (nI r).toNatClampNeg = r := nI_clamp (by omega)
  have e3 : ((3 : Int32) * nI r + 0).toNatClampNeg = 3 * r := by rw [cz_3, nI_clamp (by omega)]
  have e4 : a4 ((3 : Int32) * nI r + 0).toNatClampNeg = nI p := by rw [e3]; exact R.2.2.2.1
  have i3 : vp_in ((3 : Int32) * nI r + 0) 60 := pk_in (3 * r) 60 (by omega) (cz_3 r)
  have s1 : a3 (nI r).toNatClampNeg = nI 1 := by rw [e]; exact R.2.2.1
  exact ⟨pk_in r 20 hr, nm_e ⟨1 + 1, pk_in r 20 hr, pk_le 1 0 (fun z => absurd z (by omega)) (fun _ => ⟨i3, pk_eq p m (fun z => absurd z hpm) (fun _ => nm_r (nI_1 0)
    ⟨pk_in r 20 hr, pk_le 1 1 (fun _ => br_c (fun _ => H) (fun y => ⟨pk_in r 20 hr, br_f (fun q => y (by rw [q]; decide)) H⟩)) (fun z => absurd z (by omega)) s1 rfl⟩) e4 rfl⟩) s1 rfl⟩⟩
theorem cz_hit {post : St2 → Prop} {r h s p g v : Nat} (hr : r < 20) (R : cz_R a1 a2 a3 a4 a5 r h s p g) (hh : h < 16) (hp : p < 16) (hs : s ≤ 100) (hv : v ≤ 100) (hg : g ≤ 1) (hval : a9 p = nI v)
    (hst : a11 h = 0) (ho : a10 h = nI 0) (hw : a12 r = nI 1)
    (H : post (d, c, k, u, a1, a2, a3, a4, a5, a6, a7, a8, a9, upd a10 h (nI (if nI r = k then 0 else cz_w g v s)), a11, upd a12 r 0, a13)) : wpX_count post (d, c, k, u, a1, a2, a3, a4, a5, a6, a7, a8, a9, a10, a11, a12, a13) (nI r) (nI p) := by
  have e : (nI r).toNatClampNeg = r := nI_clamp (by omega)
  have e3 : ((3 : Int32) * nI r + 0).toNatClampNeg = 3 * r := by rw [cz_3, nI_clamp (by omega)]
  have e4 : a4 ((3 : Int32) * nI r + 0).toNatClampNeg = nI p := by rw [e3]; exact R.2.2.2.1
  have i3 : vp_in ((3 : Int32) * nI r + 0) 60 := pk_in (3 * r) 60 (by omega) (cz_3 r)
  have s1 : a3 (nI r).toNatClampNeg = nI 1 := by rw [e]; exact R.2.2.1
  have u1 : upd a12 (nI r).toNatClampNeg (a12 (nI r).toNatClampNeg - 1) = upd a12 r 0 := by
    rw [e, hw, show nI 1 - 1 = (0 : Int32) by decide]
  have w0 : upd a12 r 0 (nI r).toNatClampNeg = 0 := by rw [e]; exact pk_us
  have w1 : a12 (nI r).toNatClampNeg = nI 1 := by rw [e]; exact hw
  exact ⟨pk_in r 20 hr, nm_r w1 ⟨1 + 1, pk_in r 20 hr, pk_le 1 0 (fun z => absurd z (by omega)) (fun _ => ⟨i3, br_t e4 ⟨pk_in r 20 hr, pk_in r 20 hr, nm_r u1 (nm_r (nI_1 0)
    ⟨pk_in r 20 hr, pk_le 1 1 (fun _ => pk_le 1 0 (fun z => absurd z (by omega)) (fun _ => ⟨pk_in r 20 hr, br_t w0 (cz_offer hr R hh hp hs hv hg hval hst ho H)⟩)) (fun z => absurd z (by omega)) s1 rfl⟩)⟩⟩) s1 rfl⟩⟩
end
end
section
section
variable {d c k u : Int32} {a1 a2 a3 a4 a5 a6 a7 a8 a9 a10 a11 a12 a13 : Nat → Int32}
/-- the values in the end -/
def cz_W (V F G j : Nat) : Nat := if j = 0 then V else if j = 4 then F else if j = 8 then G else 0
/-- the offers while rule A has looked at tA claims and rule B at tB -/
def cz_O (V F G tA tB j : Nat) : Nat := if j = 0 then V else if j = 4 then (if tA = 0 then 0 else F) else if j = 8 then (if tB ≤ 4 then 0 else G) else 0
def cz_wA (tA : Nat) : Nat := if tA = 0 then 1 else 0
def cz_wB (tB : Nat) : Nat := if tB ≤ 4 then 1 else 0
/-- T claims are settled -/
def cz_I (V F G T tA tB : Nat) (a9 a10 a11 : Nat → Int32) : Prop :=
  (∀ j, j < 16 → a11 j = nI (if j < T then 1 else 0)) ∧ (∀ j, j < T → j < 16 → a9 j = nI (cz_W V F G j)) ∧ (∀ j, j < 16 → a10 j = nI (cz_O V F G tA tB j))
/-- which rules there are: A (head 4, premise 0) if gs, B (head 8, premise 4 negated) if gt, in this order -/
def cz_C (gs gt : Bool) (s t : Nat) (c : Int32) (a1 a2 a3 a4 a5 : Nat → Int32) : Prop :=
  c = nI (gs.toNat + gt.toNat) ∧ (gs = true → cz_R a1 a2 a3 a4 a5 0 4 s 0 0) ∧ (gt = true → cz_R a1 a2 a3 a4 a5 gs.toNat 8 t 4 1)
def cz_Q (gs gt : Bool) (tA tB : Nat) (a12 : Nat → Int32) : Prop :=
  (gs = true → a12 0 = nI (cz_wA tA)) ∧ (gt = true → a12 gs.toNat = nI (cz_wB tB))
def cz_F (gs : Bool) (k : Int32) (V s : Nat) : Nat := if gs = true then (if nI 0 = k then 0 else cz_w 0 V s) else 0
def cz_G (gs gt : Bool) (k : Int32) (F t : Nat) : Nat := if gt = true then (if nI gs.toNat = k then 0 else cz_w 1 F t) else 0
def cz_S (V : Nat) (a8 : Nat → Int32) : Prop := ∀ j, j < 16 → a8 j = nI (if j = 0 then V else 0)
def cz_V (V F G : Nat) (a9 : Nat → Int32) : Prop := ∀ j, j < 16 → a9 j = nI (cz_W V F G j)
theorem cz_Fle {gs : Bool} {V s : Nat} (hV : V ≤ 100) (hs : s ≤ 100) : cz_F gs k V s ≤ 100 := by
  have h := cz_wle (g := 0) hV hs
  unfold cz_F
  (repeat' split) <;> omega
theorem cz_Gle {gs gt : Bool} {F t : Nat} (hF : F ≤ 100) (ht : t ≤ 100) : cz_G gs gt k F t ≤ 100 := by
  have h := cz_wle (g := 1) hF ht
  unfold cz_G
  (repeat' split) <;> omega
theorem cz_Ole {V F G tA tB j : Nat} (hV : V ≤ 100) (hF : F ≤ 100) (hG : G ≤ 100) : cz_O V F G tA tB j ≤ 100 := by
  unfold cz_O
  (repeat' split) <;> omega
theorem cz_best {post : Int32 → Prop} {T V F G : Nat} (hT : T < 16) (hV : V ≤ 100) (hF : F ≤ 100) (hG : G ≤ 100) (I : cz_I V F G T T T a9 a10 a11)
    (H : post (nI T)) : wpX_best post (d, c, k, u, a1, a2, a3, a4, a5, a6, a7, a8, a9, a10, a11, a12, a13) (nI (4 * (T / 4))) := by
  obtain ⟨I1, I2, I3⟩ := I
  have main : ∃ n, wX_best_4 post (nI (4 * (T / 4))) d c k u a1 a2 a3 a4 a5 a6 a7 a8 a9 a10 a11 a12 a13 n (if 4 * (T / 4) ≤ T then (-1 : Int32) else nI T) (nI (4 * (T / 4))) := by
    refine pk_loop (σ := Unit) (fun n i _ => wX_best_4 post (nI (4 * (T / 4))) d c k u a1 a2 a3 a4 a5 a6 a7 a8 a9 a10 a11 a12 a13 n (if i ≤ T then (-1 : Int32) else nI T) (nI i)) (fun _ _ => True) (4 * (T / 4) + 4) (4 * (T / 4)) () (by omega) trivial ?_ ?_
    · intro n q _
      show wX_best_4 post (nI (4 * (T / 4))) d c k u a1 a2 a3 a4 a5 a6 a7 a8 a9 a10 a11 a12 a13 (n + 1) (if 4 * (T / 4) + 4 ≤ T then (-1 : Int32) else nI T) (nI (4 * (T / 4) + 4))
      rw [if_neg (show ¬ 4 * (T / 4) + 4 ≤ T by omega)]
      exact pk_le (4 * (T / 4) + 4) (4 * (T / 4) + 4) (fun _ => br_f (cz_nm1 (by omega)) H) (fun z => absurd z (by omega)) (nI_add _ 4) rfl
    · intro n i q hi _ hw
      have hw' : wX_best_4 post (nI (4 * (T / 4))) d c k u a1 a2 a3 a4 a5 a6 a7 a8 a9 a10 a11 a12 a13 n (if i + 1 ≤ T then (-1 : Int32) else nI T) (nI (i + 1)) := hw () trivial
      have ei : (nI i).toNatClampNeg = i := nI_clamp (by omega)
      have eT : (nI T).toNatClampNeg = T := nI_clamp (by omega)
      show wX_best_4 post (nI (4 * (T / 4))) d c k u a1 a2 a3 a4 a5 a6 a7 a8 a9 a10 a11 a12 a13 (n + 1) (if i ≤ T then (-1 : Int32) else nI T) (nI i)
      rcases Nat.lt_trichotomy i T with g | g | g
      · rw [if_pos (show i + 1 ≤ T by omega)] at hw'
        rw [if_pos (show i ≤ T by omega)]
        refine pk_le (4 * (T / 4) + 4) i (fun z => absurd z (by omega)) (fun _ => ⟨pk_in i 16 (by omega), br_f ?_ (nm_r (nI_1 i) hw')⟩) (nI_add _ 4) rfl
        rw [ei, I1 i (by omega), if_pos g]
        decide
      · rw [if_neg (show ¬ i + 1 ≤ T by omega)] at hw'
        rw [if_pos (show i ≤ T by omega)]
        subst g
        refine pk_le (4 * (i / 4) + 4) i (fun z => absurd z (by omega)) (fun _ => ⟨pk_in i 16 (by omega), br_t ?_ (br_t rfl (nm_r (nI_1 i) hw'))⟩) (nI_add _ 4) rfl
        rw [ei, I1 i (by omega), if_neg (by omega)]
        rfl
      · rw [if_neg (show ¬ i + 1 ≤ T by omega)] at hw'
        rw [if_neg (show ¬ i ≤ T by omega)]
        refine pk_le (4 * (T / 4) + 4) i (fun z => absurd z (by omega)) (fun _ => ⟨pk_in i 16 (by omega), br_t ?_ (br_f (cz_nm1 (by omega)) ⟨pk_in i 16 (by omega), pk_in T 16 (by omega), br_t ?_ (nm_r (nI_1 i) hw')⟩)⟩) (nI_add _ 4) rfl
        · rw [ei, I1 i (by omega), if_neg (by omega)]
          rfl
        · have o : cz_O V F G T T i = 0 := by
            unfold cz_O
            rw [if_neg (by omega), if_neg (by omega), if_neg (by omega)]
          have b : cz_O V F G T T T ≤ 100 := cz_Ole hV hF hG
          rw [ei, eT, I3 i (by omega), I3 T hT, o]
          exact nI_le (by omega) (by omega)
  rw [if_pos (show 4 * (T / 4) ≤ T by omega)] at main
  exact main
theorem cz_IA {V F G T tA tB tA' : Nat} (h : ∀ j, j < 16 → cz_O V F G tA tB j = cz_O V F G tA' tB j) (I : cz_I V F G T tA tB a9 a10 a11) : cz_I V F G T tA' tB a9 a10 a11 :=
  ⟨I.1, I.2.1, fun j hj => by rw [← h j hj]; exact I.2.2 j hj⟩
theorem cz_IB {V F G T tA tB tB' : Nat} (h : ∀ j, j < 16 → cz_O V F G tA tB j = cz_O V F G tA tB' j) (I : cz_I V F G T tA tB a9 a10 a11) : cz_I V F G T tA tB' a9 a10 a11 :=
  ⟨I.1, I.2.1, fun j hj => by rw [← h j hj]; exact I.2.2 j hj⟩
theorem cz_OA0 {V F G tA tB tA' j : Nat} (h : F = 0) : cz_O V F G tA tB j = cz_O V F G tA' tB j := by
  unfold cz_O
  subst h
  simp
theorem cz_OB0 {V F G tA tB tB' j : Nat} (h : G = 0) : cz_O V F G tA tB j = cz_O V F G tA tB' j := by
  unfold cz_O
  subst h
  simp
theorem cz_OA1 {V F G tA tB tA' j : Nat} (h : tA ≠ 0) (h' : tA' ≠ 0) : cz_O V F G tA tB j = cz_O V F G tA' tB j := by
  unfold cz_O
  rw [if_neg h, if_neg h']
theorem cz_OB1 {V F G tA tB tB' j : Nat} (h : tB ≤ 4 ↔ tB' ≤ 4) : cz_O V F G tA tB j = cz_O V F G tA tB' j := by
  unfold cz_O
  by_cases g : tB ≤ 4
  · rw [if_pos g, if_pos (h.mp g)]
  · rw [if_neg g, if_neg (fun z => g (h.mpr z))]
theorem cz_cA {post : St2 → Prop} {r s V F G T tB : Nat} (hr : r < 20) (R : cz_R a1 a2 a3 a4 a5 r 4 s 0 0) (hs : s ≤ 100) (hV : V ≤ 100) (hT : T < 16)
    (hF : F = if nI r = k then 0 else cz_w 0 V s) (I : cz_I V F G (T + 1) T tB a9 a10 a11) (hw : a12 r = nI (cz_wA T))
    (H : ∀ b10 b12 : Nat → Int32, cz_I V F G (T + 1) (T + 1) tB a9 b10 a11 → b12 r = nI (cz_wA (T + 1)) → (∀ j, j ≠ r → b12 j = a12 j) → post (d, c, k, u, a1, a2, a3, a4, a5, a6, a7, a8, a9, b10, a11, b12, a13)) :
    wpX_count post (d, c, k, u, a1, a2, a3, a4, a5, a6, a7, a8, a9, a10, a11, a12, a13) (nI r) (nI T) := by
  by_cases hT0 : T = 0
  · subst hT0
    have v0 : a9 0 = nI V := I.2.1 0 (by omega) (by omega)
    have s4 : a11 4 = 0 := I.1 4 (by omega)
    have o4 : a10 4 = nI 0 := I.2.2 4 (by omega)
    refine cz_hit hr R (by omega) (by omega) hs hV (by omega) v0 s4 o4 hw ?_
    rw [← hF]
    refine H _ _ ⟨I.1, I.2.1, fun j hj => ?_⟩ pk_us (fun j hj => pk_un hj)
    by_cases e : j = 4
    · subst e
      exact pk_us
    · rw [pk_un e, I.2.2 j hj]
      unfold cz_O
      rw [if_neg e, if_neg e]
  · refine cz_skip hr R (by omega) hT (by omega) (H a10 a12 (cz_IA (fun j _ => cz_OA1 hT0 (by omega)) I) ?_ (fun _ _ => rfl))
    rw [hw]
    unfold cz_wA
    rw [if_neg hT0, if_neg (by omega)]
theorem cz_cB {post : St2 → Prop} {r t V F G T tA : Nat} (hr : r < 20) (R : cz_R a1 a2 a3 a4 a5 r 8 t 4 1) (ht : t ≤ 100) (hF : F ≤ 100) (hT : T < 16)
    (hG : G = if nI r = k then 0 else cz_w 1 F t) (I : cz_I V F G (T + 1) tA T a9 a10 a11) (hw : a12 r = nI (cz_wB T))
    (H : ∀ b10 b12 : Nat → Int32, cz_I V F G (T + 1) tA (T + 1) a9 b10 a11 → b12 r = nI (cz_wB (T + 1)) → (∀ j, j ≠ r → b12 j = a12 j) → post (d, c, k, u, a1, a2, a3, a4, a5, a6, a7, a8, a9, b10, a11, b12, a13)) :
    wpX_count post (d, c, k, u, a1, a2, a3, a4, a5, a6, a7, a8, a9, a10, a11, a12, a13) (nI r) (nI T) := by
  by_cases hT4 : T = 4
  · subst hT4
    have v4 : a9 4 = nI F := I.2.1 4 (by omega) (by omega)
    have s8 : a11 8 = 0 := I.1 8 (by omega)
    have o8 : a10 8 = nI 0 := I.2.2 8 (by omega)
    refine cz_hit hr R (by omega) (by omega) ht hF (by omega) v4 s8 o8 hw ?_
    rw [← hG]
    refine H _ _ ⟨I.1, I.2.1, fun j hj => ?_⟩ pk_us (fun j hj => pk_un hj)
    by_cases e : j = 8
    · subst e
      exact pk_us
    · rw [pk_un e, I.2.2 j hj]
      unfold cz_O
      rw [if_neg e, if_neg e]
  · refine cz_skip hr R (by omega) hT (by omega) (H a10 a12 (cz_IB (fun j _ => cz_OB1 (by omega)) I) ?_ (fun _ _ => rfl))
    rw [hw]
    unfold cz_wB
    by_cases g : T ≤ 4
    · rw [if_pos g, if_pos (by omega)]
    · rw [if_neg g, if_neg (by omega)]
end
end
section
section
variable {d c k u : Int32} {a1 a2 a3 a4 a5 a6 a7 a8 a9 a10 a11 a12 a13 : Nat → Int32}
theorem cz_inner {post : St2 → Prop} {J : Int32 → Int32 → Int32 → Int32 → Int32 → (Nat → Int32) → (Nat → Int32) → (Nat → Int32) → (Nat → Int32) → (Nat → Int32) → (Nat → Int32) → (Nat → Int32) → (Nat → Int32) → (Nat → Int32) → (Nat → Int32) → (Nat → Int32) → (Nat → Int32) → (Nat → Int32) → Prop}
    {gs gt : Bool} {s t V F G T : Nat} (C : cz_C gs gt s t c a1 a2 a3 a4 a5) (hs : s ≤ 100) (ht : t ≤ 100) (hV : V ≤ 100) (hF1 : F ≤ 100) (hT : T < 16)
    (hF : F = cz_F gs k V s) (hG : G = cz_G gs gt k F t) (I : cz_I V F G (T + 1) T T a9 a10 a11) (Q : cz_Q gs gt T T a12)
    (H : ∀ b10 b12 : Nat → Int32, cz_I V F G (T + 1) (T + 1) (T + 1) a9 b10 a11 → cz_Q gs gt (T + 1) (T + 1) b12 → J (nI (T + 1)) d c k u a1 a2 a3 a4 a5 a6 a7 a8 a9 b10 a11 b12 a13) :
    ∃ n, wX_settleAll_121 post J (nI T) (nI T) n 0 d c k u a1 a2 a3 a4 a5 a6 a7 a8 a9 a10 a11 a12 a13 := by
  obtain ⟨hc, cA, cB⟩ := C
  obtain ⟨qA, qB⟩ := Q
  cases gs with
  | false =>
    have hF0 : F = 0 := hF
    cases gt with
    | false =>
      have hG0 : G = 0 := hG
      refine ⟨0 + 1, pk_le 0 0 (fun _ => nm_r (nI_1 T) (H a10 a12 (cz_IA (fun j _ => cz_OA0 hF0) (cz_IB (fun j _ => cz_OB0 hG0) I)) ⟨(fun z => Bool.noConfusion z), (fun z => Bool.noConfusion z)⟩)) (fun z => absurd z (by omega)) hc rfl⟩
    | true =>
      refine ⟨0 + 1 + 1, pk_le 1 0 (fun z => absurd z (by omega)) (fun _ => cz_cB (r := 0) (by omega) (cB rfl) ht hF1 hT hG I (qB rfl) (fun b10 b12 I' w' _ => nm_r (nI_1 0)
        (pk_le 1 1 (fun _ => nm_r (nI_1 T) (H b10 b12 (cz_IA (fun j _ => cz_OA0 hF0) I') ⟨(fun z => Bool.noConfusion z), (fun _ => w')⟩)) (fun z => absurd z (by omega)) hc rfl))) hc rfl⟩
  | true =>
    cases gt with
    | false =>
      have hG0 : G = 0 := hG
      refine ⟨0 + 1 + 1, pk_le 1 0 (fun z => absurd z (by omega)) (fun _ => cz_cA (r := 0) (by omega) (cA rfl) hs hV hT hF I (qA rfl) (fun b10 b12 I' w' _ => nm_r (nI_1 0)
        (pk_le 1 1 (fun _ => nm_r (nI_1 T) (H b10 b12 (cz_IB (fun j _ => cz_OB0 hG0) I') ⟨(fun _ => w'), (fun z => Bool.noConfusion z)⟩)) (fun z => absurd z (by omega)) hc rfl))) hc rfl⟩
    | true =>
      refine ⟨0 + 1 + 1 + 1, pk_le 2 0 (fun z => absurd z (by omega)) (fun _ => cz_cA (r := 0) (by omega) (cA rfl) hs hV hT hF I (qA rfl) (fun b10 b12 I' w' o' => nm_r (nI_1 0)
        (pk_le 2 1 (fun z => absurd z (by omega)) (fun _ => cz_cB (r := 1) (by omega) (cB rfl) ht hF1 hT hG I' ((o' 1 (by omega)).trans (qB rfl)) (fun b10' b12' I'' w'' o'' => nm_r (nI_1 1)
          (pk_le 2 2 (fun _ => nm_r (nI_1 T) (H b10' b12' I'' ⟨(fun _ => (o'' 0 (by omega)).trans w'), (fun _ => w'')⟩)) (fun z => absurd z (by omega)) hc rfl))) hc rfl))) hc rfl⟩
theorem cz_sh {i : Nat} (hi : i < 16) : (4 : Int32) * (nI i >>> ((2 : Int32) &&& 31)) = nI (4 * (i / 4)) := by
  rw [pk_shrN (by omega) ((2 : Int32) &&& 31) 2 (by decide)]
  exact pk_mul 4 (i / 2 ^ 2)
theorem cz_turns {post : St2 → Prop} {gs gt : Bool} {s t V F G : Nat} (C : cz_C gs gt s t c a1 a2 a3 a4 a5) (hs : s ≤ 100) (ht : t ≤ 100) (hV : V ≤ 100)
    (hF : F = cz_F gs k V s) (hG : G = cz_G gs gt k F t) (I : cz_I V F G 0 0 0 a9 a10 a11) (Q : cz_Q gs gt 0 0 a12)
    (H : ∀ b9 b10 b11 b12 : Nat → Int32, cz_V V F G b9 → post (d, c, k, u, a1, a2, a3, a4, a5, a6, a7, a8, b9, b10, b11, b12, a13)) :
    ∃ n, wX_settleAll_84 post n 0 d c k u a1 a2 a3 a4 a5 a6 a7 a8 a9 a10 a11 a12 a13 := by
  have hF1 : F ≤ 100 := by rw [hF]; exact cz_Fle hV hs
  have hG1 : G ≤ 100 := by rw [hG]; exact cz_Gle hF1 ht
  refine pk_loop (σ := (Nat → Int32) × (Nat → Int32) × (Nat → Int32) × (Nat → Int32)) (fun n i q => wX_settleAll_84 post n (nI i) d c k u a1 a2 a3 a4 a5 a6 a7 a8 q.1 q.2.1 q.2.2.1 q.2.2.2 a13)
    (fun i q => cz_I V F G i i i q.1 q.2.1 q.2.2.1 ∧ cz_Q gs gt i i q.2.2.2) 16 0 (a9, a10, a11, a12) (by omega) ⟨I, Q⟩ ?_ ?_
  · intro n q h
    exact pk_le 16 16 (fun _ => H q.1 q.2.1 q.2.2.1 q.2.2.2 (fun j hj => h.1.2.1 j hj hj)) (fun z => absurd z (by omega))
  · intro n i q hi h hw
    obtain ⟨b9, b10, b11, b12⟩ := q
    obtain ⟨I, Q⟩ := h
    have I : cz_I V F G i i i b9 b10 b11 := I
    have Q : cz_Q gs gt i i b12 := Q
    have ei : (nI i).toNatClampNeg = i := nI_clamp (by omega)
    show wX_settleAll_84 post (n + 1) (nI i) d c k u a1 a2 a3 a4 a5 a6 a7 a8 b9 b10 b11 b12 a13
    refine pk_le 16 i (fun z => absurd z (by omega)) (fun _ => ?_)
    rw [cz_sh hi]
    have I' : cz_I V F G (i + 1) i i (upd b9 i (b10 i)) b10 (upd b11 i 1) := by
      refine ⟨fun j hj => ?_, fun j hj hj' => ?_, I.2.2⟩
      · by_cases e : j = i
        · subst e
          rw [pk_us, if_pos (by omega)]
          rfl
        · rw [pk_un e, I.1 j hj]
          by_cases g : j < i
          · rw [if_pos g, if_pos (by omega)]
          · rw [if_neg g, if_neg (by omega)]
      · by_cases e : j = i
        · subst e
          rw [pk_us, I.2.2 j hj']
          unfold cz_O cz_W
          by_cases e4 : j = 4
          · subst e4
            rfl
          · rw [if_neg e4, if_neg e4]
            by_cases e8 : j = 8
            · subst e8
              rfl
            · rw [if_neg e8, if_neg e8]
        · rw [pk_un e]
          exact I.2.1 j (by omega) hj'
    refine cz_best hi hV hF1 hG1 I ⟨pk_in i 16 hi, nm_r (e' := upd b11 i 1) (by rw [ei]) ⟨pk_in i 16 hi, pk_in i 16 hi, nm_r (e' := upd b9 i (b10 i)) (by rw [ei]) ?_⟩⟩
    exact cz_inner C hs ht hV hF1 hi hF hG I' Q (fun b10' b12' I'' Q'' => hw (upd b9 i (b10 i), b10', upd b11 i 1, b12') ⟨I'', Q''⟩)
theorem cz_s42 {post : St2 → Prop} {e : Nat} (he : e ≤ 2) (hc : c = nI e) (h3 : ∀ r, r < e → a3 r = nI 1)
    (H : ∀ b12 : Nat → Int32, (∀ r, r < e → b12 r = nI 1) → ∃ n, wX_settleAll_84 post n 0 d c k u a1 a2 a3 a4 a5 a6 a7 a8 a9 a10 a11 b12 a13) : ∃ n, wX_settleAll_42 post n 0 d c k u a1 a2 a3 a4 a5 a6 a7 a8 a9 a10 a11 a12 a13 := by
  refine pk_loop (fun n i b => wX_settleAll_42 post n (nI i) d c k u a1 a2 a3 a4 a5 a6 a7 a8 a9 a10 a11 b a13) (fun i b => ∀ r, r < i → b r = nI 1) e 0 a12 (by omega) (fun r hr => absurd hr (by omega)) ?_ ?_
  · intro n b h
    exact pk_le e e (fun _ => H b h) (fun z => absurd z (by omega)) hc rfl
  · intro n i b hi h hw
    have ei : (nI i).toNatClampNeg = i := nI_clamp (by omega)
    refine pk_le e i (fun z => absurd z (by omega)) (fun _ => ⟨pk_in i 20 (by omega), pk_in i 20 (by omega), nm_r (e' := upd b i (nI 1)) (by rw [ei, h3 i hi]) ⟨pk_in i 20 (by omega), br_f ?_ (nm_r (nI_1 i) (hw _ ?_))⟩⟩) hc rfl
    · rw [ei, h3 i hi]
      decide
    · intro r hr
      by_cases g : r = i
      · rw [g, pk_us]
      · rw [pk_un g]
        exact h r (by omega)
theorem cz_s2 {post : St2 → Prop} (H : ∀ b9 b10 b11 : Nat → Int32, (∀ j, j < 16 → b9 j = 0 ∧ b10 j = a8 j ∧ b11 j = 0) → ∃ n, wX_settleAll_42 post n 0 d c k u a1 a2 a3 a4 a5 a6 a7 a8 b9 b10 b11 a12 a13) :
    wpX_settleAll post (d, c, k, u, a1, a2, a3, a4, a5, a6, a7, a8, a9, a10, a11, a12, a13) := by
  refine pk_loop (σ := (Nat → Int32) × (Nat → Int32) × (Nat → Int32)) (fun n i q => wX_settleAll_2 post d c k u n (nI i) a1 a2 a3 a4 a5 a6 a7 a8 q.1 q.2.1 q.2.2 a12 a13)
    (fun i q => ∀ j, j < i → q.1 j = 0 ∧ q.2.1 j = a8 j ∧ q.2.2 j = 0) 16 0 (a9, a10, a11) (by omega) (fun j hj => absurd hj (by omega)) ?_ ?_
  · intro n q h
    exact pk_le 16 16 (fun _ => H q.1 q.2.1 q.2.2 h) (fun z => absurd z (by omega))
  · intro n i q hi h hw
    obtain ⟨b9, b10, b11⟩ := q
    have h : ∀ j, j < i → b9 j = 0 ∧ b10 j = a8 j ∧ b11 j = 0 := h
    have ei : (nI i).toNatClampNeg = i := nI_clamp (by omega)
    show wX_settleAll_2 post d c k u (n + 1) (nI i) a1 a2 a3 a4 a5 a6 a7 a8 b9 b10 b11 a12 a13
    refine pk_le 16 i (fun z => absurd z (by omega)) (fun _ => ⟨pk_in i 16 hi, nm_r (e' := upd b11 i 0) (by rw [ei]) ⟨pk_in i 16 hi, nm_r (e' := upd b9 i 0) (by rw [ei])
      ⟨pk_in i 16 hi, pk_in i 16 hi, nm_r (e' := upd b10 i (a8 i)) (by rw [ei]) (nm_r (nI_1 i) (hw (upd b9 i 0, upd b10 i (a8 i), upd b11 i 0) ?_))⟩⟩⟩)
    intro j hj
    show upd b9 i 0 j = 0 ∧ upd b10 i (a8 i) j = a8 j ∧ upd b11 i 0 j = 0
    by_cases g : j = i
    · rw [g]
      exact ⟨pk_us, pk_us, pk_us⟩
    · rw [pk_un g, pk_un g, pk_un g]
      exact h j (by omega)
/-- settleAll: the values in the end -/
theorem cz_settle {post : St2 → Prop} {gs gt : Bool} {s t V F G : Nat} (C : cz_C gs gt s t c a1 a2 a3 a4 a5) (hs : s ≤ 100) (ht : t ≤ 100) (hV : V ≤ 100) (hS : cz_S V a8)
    (hF : F = cz_F gs k V s) (hG : G = cz_G gs gt k F t)
    (H : ∀ b9 b10 b11 b12 : Nat → Int32, cz_V V F G b9 → post (d, c, k, u, a1, a2, a3, a4, a5, a6, a7, a8, b9, b10, b11, b12, a13)) : wpX_settleAll post (d, c, k, u, a1, a2, a3, a4, a5, a6, a7, a8, a9, a10, a11, a12, a13) := by
  have hn : gs.toNat + gt.toNat ≤ 2 := by cases gs <;> cases gt <;> decide
  have h3 : ∀ r, r < gs.toNat + gt.toNat → a3 r = nI 1 := by
    intro r hr
    obtain ⟨_, cA, cB⟩ := C
    cases gs with
    | false =>
      cases gt with
      | false => exact absurd hr (Nat.not_lt_zero r)
      | true =>
        have e : r = 0 := by
          have hr' : r < 1 := hr
          omega
        rw [e]
        exact (cB rfl).2.2.1
    | true =>
      by_cases e : r = 0
      · rw [e]
        exact (cA rfl).2.2.1
      · cases gt with
        | false =>
          have hr' : r < 1 := hr
          exact absurd hr' (by omega)
        | true =>
          have hr' : r < 2 := hr
          have e : r = 1 := by omega
          rw [e]
          exact (cB rfl).2.2.1
  refine cz_s2 (fun b9 b10 b11 hb => cz_s42 hn C.1 h3 (fun b12 h12 => cz_turns C hs ht hV hF hG ⟨fun j hj => ?_, fun j hj => absurd hj (by omega), fun j hj => ?_⟩ ⟨fun e => ?_, fun e => ?_⟩ H))
  · rw [(hb j hj).2.2, if_neg (by omega)]
    rfl
  · rw [(hb j hj).2.1, hS j hj]
    unfold cz_O
    by_cases e : j = 0
    · rw [if_pos e, if_pos e]
    · rw [if_neg e, if_neg e, if_pos (show (0 : Nat) = 0 from rfl), if_pos (show (0 : Nat) ≤ 4 by omega)]
      by_cases e4 : j = 4
      · rw [if_pos e4]
      · rw [if_neg e4]
        by_cases e8 : j = 8
        · rw [if_pos e8]
        · rw [if_neg e8]
  · subst e
    exact h12 0 (by cases gt <;> decide)
  · subst e
    exact h12 gs.toNat (by cases gs <;> decide)
end
end
section
section
variable {d c k u : Int32} {a1 a2 a3 a4 a5 a6 a7 a8 a9 a10 a11 a12 a13 : Nat → Int32}
theorem cz_claim {P : Int32 → Prop} {x : Int32} (n : Nat) (hn : n < 16) (H : P 1) (hx : x = nI n := by rfl) : wpX_isClaim P () x :=
  pk_lt n 0 (fun z => absurd z (by omega)) (fun _ => pk_le 16 n (fun z => absurd z (by omega)) (fun _ => H) rfl hx) hx rfl
theorem cz_V8 {V F G : Nat} {b : Nat → Int32} (h : cz_V V F G b) : b (8 : Int32).toNatClampNeg = nI G := h 8 (by omega)
theorem cz_refresh {post : St2 → Prop} {gs gt : Bool} {s t V F G : Nat} (C : cz_C gs gt s t c a1 a2 a3 a4 a5) (hs : s ≤ 100) (ht : t ≤ 100) (hV : V ≤ 100) (hS : cz_S V a8)
    (hF : F = cz_F gs k V s) (hG : G = cz_G gs gt k F t) (hu : ¬ u = 0 → cz_V V F G a9)
    (H : ∀ (u' : Int32) (b9 b10 b11 b12 : Nat → Int32), cz_V V F G b9 → post (d, c, k, u', a1, a2, a3, a4, a5, a6, a7, a8, b9, b10, b11, b12, a13)) : wpX_refresh post (d, c, k, u, a1, a2, a3, a4, a5, a6, a7, a8, a9, a10, a11, a12, a13) :=
  br_c (fun _ => cz_settle C hs ht hV hS hF hG (fun b9 b10 b11 b12 hv => H 1 b9 b10 b11 b12 hv)) (fun z => H u a9 a10 a11 a12 (hu z))
theorem cz_cert {post : Int32 → St2 → Prop} {gs gt : Bool} {s t V F G : Nat} (C : cz_C gs gt s t c a1 a2 a3 a4 a5) (hs : s ≤ 100) (ht : t ≤ 100) (hV : V ≤ 100) (hS : cz_S V a8)
    (hF : F = cz_F gs k V s) (hG : G = cz_G gs gt k F t) (hu : ¬ u = 0 → cz_V V F G a9)
    (H : ∀ (u' : Int32) (b9 b10 b11 b12 : Nat → Int32), cz_V V F G b9 → post (nI G) (d, c, k, u', a1, a2, a3, a4, a5, a6, a7, a8, b9, b10, b11, b12, a13)) : wpX_certainty post (d, c, k, u, a1, a2, a3, a4, a5, a6, a7, a8, a9, a10, a11, a12, a13) 8 := by
  unfold wpX_certainty
  refine cz_claim 8 (by omega) (br_f (by decide) (cz_refresh C hs ht hV hS hF hG hu (fun u' b9 b10 b11 b12 hv => ⟨pk_in 8 16 (by omega), ?_⟩)))
  rw [cz_V8 hv]
  exact H u' b9 b10 b11 b12 hv
/-- the place 0 of what was observed, written -/
theorem cz_S0 {V Y : Nat} {b : Nat → Int32} (h : cz_S V b) : cz_S Y (upd b 0 (nI Y)) := by
  intro j hj
  by_cases e : j = 0
  · rw [e, pk_us, if_pos rfl]
  · rw [pk_un e, h j hj, if_neg e, if_neg e]
theorem cz_wif {post : Int32 → St2 → Prop} {gs gt : Bool} {s t V Y F G : Nat} (C : cz_C gs gt s t c a1 a2 a3 a4 a5) (hs : s ≤ 100) (ht : t ≤ 100) (hY : Y ≤ 100) (hS : cz_S V a8)
    (hF : F = cz_F gs k Y s) (hG : G = cz_G gs gt k F t)
    (H : ∀ b8 b9 b10 b11 b12 : Nat → Int32, cz_S V b8 → post (nI G) (d, c, k, 0, a1, a2, a3, a4, a5, a6, a7, b8, b9, b10, b11, b12, a13)) : wpX_whatIf post (d, c, k, u, a1, a2, a3, a4, a5, a6, a7, a8, a9, a10, a11, a12, a13) 8 0 (nI Y) := by
  unfold wpX_whatIf
  refine cz_claim 8 (by omega) (br_f (by decide) (cz_claim 0 (by omega) (br_f (by decide) (pk_lt Y 0 (fun z => absurd z (by omega)) (fun _ => pk_le Y 100 (fun _ => ⟨pk_in 0 16 (by omega), nm_r (e' := nI V) (hS 0 (by omega))
    ⟨pk_in 0 16 (by omega), nm_r (e' := upd a8 0 (nI Y)) rfl (cz_settle C hs ht hY (cz_S0 hS) hF hG (fun b9 b10 b11 b12 hv => ⟨pk_in 0 16 (by omega), nm_r (e' := upd (upd a8 0 (nI Y)) 0 (nI V)) rfl ⟨pk_in 8 16 (by omega), ?_⟩⟩))⟩⟩) (fun z => absurd z (by omega)))))))
  rw [cz_V8 hv]
  exact H _ b9 b10 b11 b12 (cz_S0 (cz_S0 hS))
theorem cz_swo {post : St2 → Prop} {gs gt : Bool} {s t V F G : Nat} (C : cz_C gs gt s t c a1 a2 a3 a4 a5) (hs : s ≤ 100) (ht : t ≤ 100) (hV : V ≤ 100) (hS : cz_S V a8)
    (hF : F = cz_F gs 0 V s) (hG : G = cz_G gs gt 0 F t)
    (H : ∀ b9 b10 b11 b12 : Nat → Int32, cz_V V F G b9 → post (d, c, (-1), 0, a1, a2, a3, a4, a5, a6, a7, a8, b9, b10, b11, b12, a13)) : wpX_settleWithout post (d, c, k, u, a1, a2, a3, a4, a5, a6, a7, a8, a9, a10, a11, a12, a13) 0 := by
  unfold wpX_settleWithout
  exact cz_settle C hs ht hV hS hF hG H
theorem cz_wout {post : Int32 → St2 → Prop} {gs gt : Bool} {s t V F G : Nat} (C : cz_C gs gt s t c a1 a2 a3 a4 a5) (hs : s ≤ 100) (ht : t ≤ 100) (hV : V ≤ 100) (hS : cz_S V a8)
    (hF : F = cz_F gs 0 V s) (hG : G = cz_G gs gt 0 F t) (hb : 0 < gs.toNat + gt.toNat)
    (H : ∀ b9 b10 b11 b12 : Nat → Int32, post (nI G) (d, c, (-1), 0, a1, a2, a3, a4, a5, a6, a7, a8, b9, b10, b11, b12, a13)) : wpX_without post (d, c, k, u, a1, a2, a3, a4, a5, a6, a7, a8, a9, a10, a11, a12, a13) 8 0 := by
  have hn : gs.toNat + gt.toNat ≤ 2 := by cases gs <;> cases gt <;> decide
  unfold wpX_without
  refine cz_claim 8 (by omega) (br_f (by decide) (br_f (by decide) (pk_le (gs.toNat + gt.toNat) 0 (fun z => absurd z (by omega)) (fun _ => br_f (by decide) (cz_swo C hs ht hV hS hF hG (fun b9 b10 b11 b12 hv => ⟨pk_in 8 16 (by omega), ?_⟩))) C.1 rfl)))
  rw [cz_V8 hv]
  exact H b9 b10 b11 b12
theorem cz_woutN {post : Int32 → St2 → Prop} (hc : c = nI 0) (H : post (-2) (d, c, k, u, a1, a2, a3, a4, a5, a6, a7, a8, a9, a10, a11, a12, a13)) : wpX_without post (d, c, k, u, a1, a2, a3, a4, a5, a6, a7, a8, a9, a10, a11, a12, a13) 8 0 := by
  unfold wpX_without
  exact cz_claim 8 (by omega) (br_f (by decide) (br_f (by decide) (pk_le 0 0 (fun _ => br_t rfl H) (fun z => absurd z (by omega)) hc rfl)))
theorem cz_wifN {post : Int32 → St2 → Prop} {y : Int32} (hy : y < nI 0 ∨ nI 100 < y) (H : post (-2) (d, c, k, u, a1, a2, a3, a4, a5, a6, a7, a8, a9, a10, a11, a12, a13)) : wpX_whatIf post (d, c, k, u, a1, a2, a3, a4, a5, a6, a7, a8, a9, a10, a11, a12, a13) 8 0 y := by
  unfold wpX_whatIf
  exact cz_claim 8 (by omega) (br_f (by decide) (cz_claim 0 (by omega) (br_f (by decide) (br_c (fun _ => H) (fun z => br_f (fun q => by
    rcases hy with h | h
    · exact z h
    · exact absurd h (Int32.not_lt.mpr q)) H)))))
theorem cz_keep {post : St2 → Prop} {gs gt : Bool} {s t V F G : Nat} (C : cz_C gs gt s t c a1 a2 a3 a4 a5) (hs : s ≤ 100) (ht : t ≤ 100) (hV : V ≤ 100) (hS : cz_S V a8)
    (hF : F = cz_F gs k V s) (hG : G = cz_G gs gt k F t) (hu : ¬ u = 0 → cz_V V F G a9)
    (H : ∀ (u' : Int32) (b9 b10 b11 b12 b13 : Nat → Int32), cz_V V F G b13 → post (d, c, k, u', a1, a2, a3, a4, a5, a6, a7, a8, b9, b10, b11, b12, b13)) : wpX_keepValues post (d, c, k, u, a1, a2, a3, a4, a5, a6, a7, a8, a9, a10, a11, a12, a13) := by
  unfold wpX_keepValues
  refine cz_refresh C hs ht hV hS hF hG hu (fun u' b9 b10 b11 b12 hv => ?_)
  refine pk_loop (fun n i b => wX_keepValues_6 post d c k u' n (nI i) a1 a2 a3 a4 a5 a6 a7 a8 b9 b10 b11 b12 b) (fun i b => ∀ j, j < i → b j = b9 j) 16 0 a13 (by omega) (fun j hj => absurd hj (by omega)) ?_ ?_
  · intro n b h
    exact pk_le 16 16 (fun _ => H u' b9 b10 b11 b12 b (fun j hj => (h j hj).trans (hv j hj))) (fun z => absurd z (by omega))
  · intro n i b hi h hw
    have ei : (nI i).toNatClampNeg = i := nI_clamp (by omega)
    refine pk_le 16 i (fun z => absurd z (by omega)) (fun _ => ⟨pk_in i 16 hi, pk_in i 16 hi, nm_r (e' := upd b i (b9 i)) (by rw [ei]) (nm_r (nI_1 i) (hw _ ?_))⟩)
    intro j hj
    by_cases g : j = i
    · rw [g, pk_us]
    · rw [pk_un g]
      exact h j (by omega)
/-- how many of the first n places differ -/
def cz_N (f g : Nat → Nat) : Nat → Nat
  | 0 => 0
  | n + 1 => cz_N f g n + (if f n = g n then 0 else 1)
theorem cz_Nle (f g : Nat → Nat) (n : Nat) : cz_N f g n ≤ n := by
  induction n with
  | zero => exact Nat.le_refl 0
  | succ n ih =>
    unfold cz_N
    split <;> omega
theorem cz_Wle {V F G j : Nat} (hV : V ≤ 100) (hF : F ≤ 100) (hG : G ≤ 100) : cz_W V F G j ≤ 100 := by
  unfold cz_W
  (repeat' split) <;> omega
theorem cz_chg {post : Int32 → Prop} {V F G V' F' G' : Nat} (hV : V ≤ 100) (hF : F ≤ 100) (hG : G ≤ 100) (hV' : V' ≤ 100) (hF' : F' ≤ 100) (hG' : G' ≤ 100)
    (h13 : cz_V V F G a13) (h9 : cz_V V' F' G' a9) (H : post (nI (cz_N (cz_W V F G) (cz_W V' F' G') 16))) : wpX_changes post (d, c, k, u, a1, a2, a3, a4, a5, a6, a7, a8, a9, a10, a11, a12, a13) := by
  refine pk_loop (σ := Unit) (fun n i _ => wX_changes_4 post d c k u a1 a2 a3 a4 a5 a6 a7 a8 a9 a10 a11 a12 a13 n (nI (cz_N (cz_W V F G) (cz_W V' F' G') i)) (nI i)) (fun _ _ => True) 16 0 () (by omega) trivial ?_ ?_
  · intro n _ _
    exact pk_le 16 16 (fun _ => H) (fun z => absurd z (by omega))
  · intro n i _ hi _ hw
    have ei : (nI i).toNatClampNeg = i := nI_clamp (by omega)
    have hw' : wX_changes_4 post d c k u a1 a2 a3 a4 a5 a6 a7 a8 a9 a10 a11 a12 a13 n (nI (cz_N (cz_W V F G) (cz_W V' F' G') i + (if cz_W V F G i = cz_W V' F' G' i then 0 else 1))) (nI (i + 1)) := hw () trivial
    have l1 : cz_W V F G i ≤ 100 := cz_Wle hV hF hG
    have l2 : cz_W V' F' G' i ≤ 100 := cz_Wle hV' hF' hG'
    refine pk_le 16 i (fun z => absurd z (by omega)) (fun _ => ⟨pk_in i 16 hi, pk_in i 16 hi, pk_eq (cz_W V F G i) (cz_W V' F' G' i) (fun z => nm_r (nI_1 i) ?_) (fun z => nm_r (nI_1 _) (nm_r (nI_1 i) ?_)) (by rw [ei]; exact h13 i hi) (by rw [ei]; exact h9 i hi)⟩)
    · rw [if_pos z] at hw'
      exact hw'
    · rw [if_neg z] at hw'
      exact hw'
theorem cz_infl {post : Int32 → St2 → Prop} {gs gt : Bool} {s t V F G F' G' : Nat} (C : cz_C gs gt s t c a1 a2 a3 a4 a5) (hs : s ≤ 100) (ht : t ≤ 100) (hV : V ≤ 100) (hS : cz_S V a8)
    (hF : F = cz_F gs k V s) (hG : G = cz_G gs gt k F t) (hF' : F' = cz_F gs k 0 s) (hG' : G' = cz_G gs gt k F' t) (hu : ¬ u = 0 → cz_V V F G a9)
    (H : ∀ b8 b9 b10 b11 b12 b13 : Nat → Int32, post (nI (cz_N (cz_W V F G) (cz_W 0 F' G') 16)) (d, c, k, 0, a1, a2, a3, a4, a5, a6, a7, b8, b9, b10, b11, b12, b13)) : wpX_influence post (d, c, k, u, a1, a2, a3, a4, a5, a6, a7, a8, a9, a10, a11, a12, a13) 0 := by
  have l1 : F ≤ 100 := by rw [hF]; exact cz_Fle hV hs
  have l2 : G ≤ 100 := by rw [hG]; exact cz_Gle l1 ht
  have l3 : F' ≤ 100 := by rw [hF']; exact cz_Fle (by omega) hs
  have l4 : G' ≤ 100 := by rw [hG']; exact cz_Gle l3 ht
  unfold wpX_influence
  exact cz_claim 0 (by omega) (br_f (by decide) (cz_keep C hs ht hV hS hF hG hu (fun u' b9 b10 b11 b12 b13 hv => ⟨pk_in 0 16 (by omega), nm_e ⟨pk_in 0 16 (by omega), nm_r (e' := upd a8 0 (nI 0)) rfl
    (cz_settle C hs ht (by omega) (cz_S0 hS) hF' hG' (fun e9 e10 e11 e12 hv' => ⟨pk_in 0 16 (by omega), nm_e (cz_chg hV l1 l2 (by omega) l3 l4 hv hv' (H _ e9 e10 e11 e12 b13))⟩))⟩⟩)))
end
end
section
section
variable {d c k u : Int32} {a1 a2 a3 a4 a5 a6 a7 a8 a9 a10 a11 a12 a13 : Nat → Int32}
/-- an argument: in range (then x = nI X), or not (then X = 0) -/
def cz_arg (lo : Nat) (g : Bool) (X : Nat) (x : Int32) : Prop :=
  X ≤ 100 ∧ (g = true → x = nI X ∧ lo ≤ X) ∧ (g = false → X = 0 ∧ (x < nI lo ∨ nI 100 < x))
theorem cz_argE {lo : Nat} (hl : lo ≤ 1) (x : Int32) : ∃ g X, cz_arg lo g X x := by
  by_cases h0 : x < nI lo
  · exact ⟨false, 0, by omega, (fun z => Bool.noConfusion z), fun _ => ⟨rfl, Or.inl h0⟩⟩
  · by_cases h1 : nI 100 < x
    · exact ⟨false, 0, by omega, (fun z => Bool.noConfusion z), fun _ => ⟨rfl, Or.inr h1⟩⟩
    · have h0' : nI lo ≤ x := Int32.not_lt.mp h0
      have h1' : x ≤ nI 100 := Int32.not_lt.mp h1
      have hx : ¬ x < 0 := Int32.not_lt.mpr (Int32.le_trans (nI_pos' (by omega)) h0')
      obtain ⟨X, hX, e⟩ := nI_of2 (M := nI 100) (n := 100) (nI_toInt (by omega)) hx h1'
      rw [e] at h0'
      exact ⟨true, X, hX, fun _ => ⟨e, (nI_leI (by omega) (by omega)).mp h0'⟩, (fun z => Bool.noConfusion z)⟩
theorem cz_flag {A : Int32 → Prop} {lo X : Nat} {g : Bool} {x : Int32} (hl : lo ≤ 1) (h : cz_arg lo g X x) (H : A (nI g.toNat)) :
    (x < nI lo → A 0) ∧ (¬ x < nI lo → ((100 < x → A 0) ∧ (¬ 100 < x → A 1))) := by
  obtain ⟨hX, ht, hf⟩ := h
  cases g with
  | false =>
    have H : A 0 := H
    rcases (hf rfl).2 with z | z
    · exact br_t z H
    · exact br_c (fun _ => H) (fun _ => br_t z H)
  | true =>
    obtain ⟨e, hX'⟩ := ht rfl
    exact pk_lt X lo (fun z => absurd z (by omega)) (fun _ => pk_lt 100 X (fun z => absurd z (by omega)) (fun _ => H) rfl e) e rfl
theorem cz_obs {post : Int32 → St2 → Prop} {X : Nat} {g : Bool} {x : Int32} (h : cz_arg 0 g X x) (hS : cz_S 0 a8)
    (Ht : ∀ b8 : Nat → Int32, g = true → cz_S X b8 → post 0 (d, c, k, 0, a1, a2, a3, a4, a5, a6, a7, b8, a9, a10, a11, a12, a13)) (Hf : g = false → cz_S X a8 → post (-2) (d, c, k, u, a1, a2, a3, a4, a5, a6, a7, a8, a9, a10, a11, a12, a13)) : wpX_observe post (d, c, k, u, a1, a2, a3, a4, a5, a6, a7, a8, a9, a10, a11, a12, a13) 0 x := by
  obtain ⟨hX, ht, hf⟩ := h
  unfold wpX_observe
  refine cz_claim 0 (by omega) (br_f (by decide) ?_)
  cases g with
  | false =>
    obtain ⟨e, hx⟩ := hf rfl
    subst e
    refine br_c (fun _ => Hf rfl hS) (fun z => br_f (fun q => ?_) (Hf rfl hS))
    rcases hx with y | y
    · exact z y
    · exact absurd y (Int32.not_lt.mpr q)
  | true =>
    obtain ⟨e, _⟩ := ht rfl
    subst e
    refine pk_lt X 0 (fun z => absurd z (by omega)) (fun _ => pk_le X 100 (fun _ => ⟨pk_in 0 16 (by omega), nm_r (e' := 0) (hS 0 (by omega)) ⟨pk_in 0 16 (by omega), nm_r (e' := upd a8 0 (nI X)) rfl (Ht _ rfl (cz_S0 hS))⟩⟩) (fun z => absurd z (by omega)))
theorem cz_prem {post : Int32 → St2 → Prop} {p g : Nat} (hp : p < 16) (hg : g ≤ 1) (hd : d = nI 0)
    (H : post (nI 1) (nI 1, c, k, u, a1, a2, a3, a4, a5, upd a6 0 (nI p), upd a7 0 (nI g), a8, a9, a10, a11, a12, a13)) : wpX_premise post (d, c, k, u, a1, a2, a3, a4, a5, a6, a7, a8, a9, a10, a11, a12, a13) (nI p) (nI g) := by
  subst hd
  unfold wpX_premise
  refine cz_claim p hp (br_f (by decide) (br_f (by decide) ⟨pk_in 0 3 (by omega), nm_r (e' := upd a6 0 (nI p)) rfl (pk_eq g 0 (fun z => ?_) (fun z => ?_))⟩))
  · subst z
    exact ⟨pk_in 0 3 (by omega), nm_r (e' := upd a7 0 (nI 0)) rfl (nm_r (e' := nI 1) rfl H)⟩
  · have e : g = 1 := by omega
    subst e
    exact ⟨pk_in 0 3 (by omega), nm_r (e' := upd a7 0 (nI 1)) rfl (nm_r (e' := nI 1) rfl H)⟩
theorem cz_sh2 {i : Nat} (hi : i < 16) : nI i >>> ((2 : Int32) &&& 31) = nI (i / 4) :=
  pk_shrN (by omega) ((2 : Int32) &&& 31) 2 (by decide)
theorem cz_nb {g : Nat} (hg : g ≤ 1) : vp_nar .boolean (nI g) = nI g := by
  rcases (show g = 0 ∨ g = 1 by omega) with e | e
  · subst e
    rfl
  · subst e
    rfl
theorem cz_124 {post : Int32 → St2 → Prop} {n p g : Nat} (hn : n ≤ 1) (hg : g ≤ 1) (hc : c = nI n) (hd : d = nI 1) (h6 : a6 0 = nI p) (h7 : a7 0 = nI g)
    (H : post (nI n) (0, nI (n + 1), k, 0, a1, a2, a3, upd a4 (3 * n) (nI p), upd a5 (3 * n) (nI g), a6, a7, a8, a9, a10, a11, a12, a13)) : ∃ m, wX_rule_124 post d c k u m 0 a1 a2 a3 a4 a5 a6 a7 a8 a9 a10 a11 a12 a13 := by
  subst hc
  subst hd
  have e3 : ((3 : Int32) * nI n + 0).toNatClampNeg = 3 * n := by rw [cz_3, nI_clamp (by omega)]
  have i3 : vp_in ((3 : Int32) * nI n + 0) 60 := pk_in (3 * n) 60 (by omega) (cz_3 n)
  have u4 : upd a4 ((3 : Int32) * nI n + 0).toNatClampNeg (a6 (0 : Int32).toNatClampNeg) = upd a4 (3 * n) (nI p) := by
    rw [e3, show a6 (0 : Int32).toNatClampNeg = nI p from h6]
  have u5 : upd a5 ((3 : Int32) * nI n + 0).toNatClampNeg (vp_nar .boolean (a7 (0 : Int32).toNatClampNeg)) = upd a5 (3 * n) (nI g) := by
    rw [e3, show a7 (0 : Int32).toNatClampNeg = nI g from h7, cz_nb hg]
  refine ⟨0 + 1 + 1, pk_le 1 0 (fun z => absurd z (by omega)) (fun _ => ⟨pk_in 0 3 (by omega), i3, nm_r u4 ⟨pk_in 0 3 (by omega), i3, nm_r u5 (nm_r (nI_1 0) (pk_le 1 1 (fun _ => nm_r (nI_1 n) ?_) (fun z => absurd z (by omega))))⟩⟩)⟩
  rw [nI_pred n]
  exact H
theorem cz_rule {post : Int32 → St2 → Prop} {n h s p g : Nat} (hn : n ≤ 1) (hh : h < 16) (hp : p < 16) (hg : g ≤ 1) (hl : p / 4 + g ≤ h / 4) (hs : s ≤ 100) (hs1 : 1 ≤ s) (hc : c = nI n) (hd : d = nI 1) (h6 : a6 0 = nI p) (h7 : a7 0 = nI g)
    (H : post (nI n) (0, nI (n + 1), k, 0, upd a1 n (nI h), upd a2 n (nI s), upd a3 n (nI 1), upd a4 (3 * n) (nI p), upd a5 (3 * n) (nI g), a6, a7, a8, a9, a10, a11, a12, a13)) : wpX_rule post (d, c, k, u, a1, a2, a3, a4, a5, a6, a7, a8, a9, a10, a11, a12, a13) (nI h) (nI s) := by
  have ec : c.toNatClampNeg = n := pk_cl n hc
  have l : a6 (0 : Int32).toNatClampNeg >>> ((2 : Int32) &&& 31) = nI (p / 4) := by
    rw [show a6 (0 : Int32).toNatClampNeg = nI p from h6, cz_sh2 hp]
  have fin : ∀ m, wX_rule_25 post (nI h) (nI s) d c k u a1 a2 a3 a4 a5 a6 a7 a8 a9 a10 a11 a12 a13 (m + 1) (nI 1) := by
    intro m
    refine pk_le 1 1 (fun _ => pk_eq n 20 (fun z => absurd z (by omega)) (fun _ => ⟨pk_in n 20 (by omega) hc, nm_r (e' := upd a1 n (nI h)) (by rw [ec]) ⟨pk_in n 20 (by omega) hc, nm_r (e' := upd a2 n (nI s)) (by rw [ec]) ⟨pk_in n 20 (by omega) hc, nm_r (e' := upd a3 n (nI 1)) (by rw [ec, hd]) ?_⟩⟩⟩) hc rfl) (fun z => absurd z (by omega)) hd rfl
    exact cz_124 hn hg hc hd h6 h7 H
  unfold wpX_rule
  refine cz_claim h hh (br_f (by decide) (pk_lt s 1 (fun z => absurd z (by omega)) (fun _ => pk_le s 100 (fun _ => ⟨0 + 1 + 1, pk_le 1 0 (fun z => absurd z (by omega)) (fun _ => ⟨pk_in 0 3 (by omega), pk_eq g 0 (fun z => ?_) (fun z => ?_) h7 rfl⟩) hd rfl⟩) (fun z => absurd z (by omega)))))
  · exact ⟨pk_in 0 3 (by omega), pk_le (p / 4) (h / 4) (fun _ => nm_r (nI_1 0) (fin 0)) (fun y => absurd y (by omega)) l (cz_sh2 hh)⟩
  · refine ⟨pk_in 0 3 (by omega), pk_le (p / 4) (h / 4 - 1) (fun _ => nm_r (nI_1 0) (fin 0)) (fun y => absurd y (by omega)) l ?_⟩
    rw [cz_sh2 hh]
    exact pk_sub (b := 1) (by omega)
theorem cz_ruleN {post : Int32 → St2 → Prop} {h : Nat} {x : Int32} (hh : h < 16) (hx : x < nI 1 ∨ nI 100 < x) (H : post (-2) (d, c, k, u, a1, a2, a3, a4, a5, a6, a7, a8, a9, a10, a11, a12, a13)) : wpX_rule post (d, c, k, u, a1, a2, a3, a4, a5, a6, a7, a8, a9, a10, a11, a12, a13) (nI h) x := by
  unfold wpX_rule
  exact cz_claim h hh (br_f (by decide) (br_c (fun _ => H) (fun z => br_f (fun q => by
    rcases hx with y | y
    · exact z y
    · exact absurd y (Int32.not_lt.mpr q)) H)))
end
end
section
section
variable {d c k u : Int32} {a1 a2 a3 a4 a5 a6 a7 a8 a9 a10 a11 a12 a13 : Nat → Int32}
variable {post : Int32 → St0 → Prop} {mc ms kc ks : Nat} {x0 x1 x2 x3 : Int32} {gx gs gt gy : Bool} {X s t Y V F G : Nat}
/-- the state once the rules stand -/
def cz_P (gs gt : Bool) (s t V F G : Nat) (c u : Int32) (a1 a2 a3 a4 a5 a8 a9 : Nat → Int32) : Prop :=
  cz_C gs gt s t c a1 a2 a3 a4 a5 ∧ s ≤ 100 ∧ t ≤ 100 ∧ V ≤ 100 ∧ cz_S V a8 ∧ F = cz_F gs (-1) V s ∧ G = cz_G gs gt (-1) F t ∧ (¬ u = 0 → cz_V V F G a9)
theorem cz_Ft : cz_F true (-1) V s = V * s / 100 := by
  unfold cz_F cz_w cz_g
  rw [if_pos rfl, if_neg (by decide), if_pos rfl]
theorem cz_Gt : cz_G gs true (-1) F t = (100 - F) * t / 100 := by
  unfold cz_G cz_w cz_g
  rw [if_pos rfl, if_neg (cz_nm1 (by cases gs <;> decide)), if_neg (by omega)]
theorem cz_F0 : cz_F gs k 0 s = 0 := by
  unfold cz_F cz_w cz_g
  rw [if_pos rfl, Nat.zero_mul]
  (repeat' split) <;> rfl
theorem cz_Gt0 : cz_G gs true (-1) 0 t = t := by
  rw [cz_Gt]
  show 100 * t / 100 = t
  omega
theorem cz_16 {G' : Nat} : cz_N (cz_W V F G) (cz_W 0 0 G') 16 = (if V = 0 then 0 else 1) + (if F = 0 then 0 else 1) + (if G = G' then 0 else 1) := by
  simp [cz_N, cz_W]
theorem cz_L412 {z0 z1 : Int32} (P : cz_P gs gt s t V F G c u a1 a2 a3 a4 a5 a8 a9)
    (hz : z1 + z0 = nI ((if V = 0 then 0 else 1) + (if F = 0 then 0 else 1) + (if gt = true ∧ G ≠ t then 1 else 0))) (hp : post 1 ()) : wL_lawOf_412 post mc ms z0 z1 kc ks d c ((-1)) u a1 a2 a3 a4 a5 a6 a7 a8 a9 a10 a11 a12 a13 := by
  obtain ⟨C, hs, ht, hV, hS, hF, hG, hu⟩ := P
  refine nm_r hz (cz_infl C hs ht hV hS hF hG (F' := 0) (G' := cz_G gs gt (-1) 0 t) cz_F0.symm rfl hu (fun b8 b9 b10 b11 b12 b13 => br_t ?_ hp))
  rw [cz_16]
  have e : (if G = cz_G gs gt (-1) 0 t then 0 else 1) = (if gt = true ∧ G ≠ t then 1 else 0) := by
    cases gt with
    | false =>
      have h0 : G = 0 := hG
      rw [if_pos (show G = cz_G gs false (-1) 0 t from h0), if_neg (by simp)]
    | true =>
      rw [cz_Gt0]
      by_cases g : G = t
      · rw [if_pos g, if_neg (fun z => z.2 g)]
      · rw [if_neg g, if_pos ⟨rfl, g⟩]
  rw [e]
theorem cz_L395 {a b : Nat} (P : cz_P gs gt s t V F G c u a1 a2 a3 a4 a5 a8 a9) (h2 : gt = true → x2 = nI t) (ha : a = if V = 0 then 0 else 1) (hb : b = if F = 0 then 0 else 1)
    (hp : post 1 ()) : wL_lawOf_395 post mc ms x2 (nI gt.toNat) (nI G) (nI b) (nI a) kc ks d c ((-1)) u a1 a2 a3 a4 a5 a6 a7 a8 a9 a10 a11 a12 a13 := by
  have hG1 : G ≤ 100 ∧ t ≤ 100 := by
    obtain ⟨C, hs, ht, hV, hS, hF, hG, hu⟩ := P
    have hF1 : F ≤ 100 := by rw [hF]; exact cz_Fle hV hs
    exact ⟨by rw [hG]; exact cz_Gle hF1 ht, ht⟩
  obtain ⟨hG1, ht1⟩ := hG1
  have n0 : nI a + nI b + 0 = nI (a + b + 0) := by rw [nI_add]; exact nI_add (a + b) 0
  have n1 : nI a + nI b + 1 = nI (a + b + 1) := by rw [nI_add, nI_1]
  cases gt with
  | false =>
    refine br_t rfl (cz_L412 P ?_ hp)
    rw [n0, ha, hb, if_neg (show ¬ (false = true ∧ G ≠ t) by simp)]
  | true =>
    refine br_f (by decide) (pk_eq G t (fun z => ?_) (fun z => ?_) rfl (h2 rfl))
    · refine cz_L412 P ?_ hp
      rw [n0, ha, hb, if_neg (show ¬ (true = true ∧ G ≠ t) from fun y => y.2 z)]
    · refine cz_L412 P ?_ hp
      rw [n1, ha, hb, if_pos (show true = true ∧ G ≠ t from ⟨rfl, z⟩)]
theorem cz_L370 {z z' : Int32} (P : cz_P gs gt s t V F G c u a1 a2 a3 a4 a5 a8 a9) (h2 : gt = true → x2 = nI t) (hz : z' = z)
    (hp : post 1 ()) : wL_lawOf_370 post mc ms x2 (nI gt.toNat) (nI V) (nI F) (nI G) z z' kc ks d c ((-1)) u a1 a2 a3 a4 a5 a6 a7 a8 a9 a10 a11 a12 a13 := by
  have hV1 : V ≤ 100 ∧ F ≤ 100 := by
    obtain ⟨C, hs, ht, hV, hS, hF, hG, hu⟩ := P
    exact ⟨hV, by rw [hF]; exact cz_Fle hV hs⟩
  obtain ⟨hV1, hF1⟩ := hV1
  have K : ∀ a : Nat, a = (if V = 0 then 0 else 1) → wL_lawOf_385 post mc ms x2 (nI gt.toNat) (nI F) (nI G) (nI a) kc ks d c ((-1)) u a1 a2 a3 a4 a5 a6 a7 a8 a9 a10 a11 a12 a13 := fun a ha =>
    pk_le F 0 (fun y => cz_L395 (b := 0) P h2 ha (by rw [if_pos (by omega)]) hp) (fun y => cz_L395 (b := 1) P h2 ha (by rw [if_neg (by omega)]) hp)
  exact br_t hz (pk_le V 0 (fun y => K 0 (by rw [if_pos (by omega)])) (fun y => K 1 (by rw [if_neg (by omega)])))
theorem cz_P0 {b8 b9 : Nat → Int32} (P : cz_P gs gt s t V F G c u a1 a2 a3 a4 a5 a8 a9) (h : cz_S V b8) : cz_P gs gt s t V F G c 0 a1 a2 a3 a4 a5 b8 b9 :=
  ⟨P.1, P.2.1, P.2.2.1, P.2.2.2.1, h, P.2.2.2.2.2.1, P.2.2.2.2.2.2.1, fun z => absurd rfl z⟩
theorem cz_L343 {z : Int32} (P : cz_P gs gt s t V F G c u a1 a2 a3 a4 a5 a8 a9) (h2 : gt = true → x2 = nI t) (hz : z = nI (if gs = true then (if gt = true then t else 0) else 0))
    (hp : post 1 ()) : wL_lawOf_343 post mc ms x2 (nI gs.toNat) (nI gt.toNat) (nI V) (nI F) (nI G) z kc ks d c ((-1)) u a1 a2 a3 a4 a5 a6 a7 a8 a9 a10 a11 a12 a13 := by
  have P' := P
  obtain ⟨C, hs, ht, hV, hS, hF, hG, hu⟩ := P'
  subst hz
  cases gs with
  | false =>
    cases gt with
    | false => exact cz_woutN C.1 (br_t rfl (br_t rfl (cz_L370 P h2 rfl hp)))
    | true => exact cz_wout C hs ht hV hS (F := 0) (G := 0) rfl rfl (by decide) (fun b9 b10 b11 b12 => br_t rfl (br_f (by decide) (cz_L370 (cz_P0 P hS) h2 rfl hp)))
  | true =>
    cases gt with
    | false => exact cz_wout C hs ht hV hS (F := 0) (G := 0) rfl rfl (by decide) (fun b9 b10 b11 b12 => br_f (by decide) (cz_L370 (cz_P0 P hS) h2 rfl hp))
    | true =>
      have eG : t = cz_G true true 0 0 t := by
        show t = cz_w 1 0 t
        unfold cz_w cz_g
        rw [if_neg (by omega)]
        omega
      exact cz_wout C hs ht hV hS (F := 0) (G := t) rfl eG (by decide) (fun b9 b10 b11 b12 => br_f (by decide) (cz_L370 (cz_P0 P hS) h2 rfl hp))
theorem cz_L319 {z z' : Int32} (P : cz_P gs gt s t V F G c u a1 a2 a3 a4 a5 a8 a9) (h2 : gt = true → x2 = nI t) (hz : z' = z)
    (hp : post 1 ()) : wL_lawOf_319 post mc ms x2 (nI gs.toNat) (nI gt.toNat) (nI V) (nI F) (nI G) z z' kc ks d c ((-1)) u a1 a2 a3 a4 a5 a6 a7 a8 a9 a10 a11 a12 a13 := by
  refine br_t hz ?_
  cases gs with
  | false => exact br_t rfl (cz_L343 P h2 rfl hp)
  | true =>
    refine br_f (by decide) ?_
    cases gt with
    | false => exact br_t rfl (cz_L343 P h2 rfl hp)
    | true => exact br_f (by decide) (cz_L343 P h2 (h2 rfl) hp)
theorem cz_L279 {z : Int32} (P : cz_P gs gt s t V F G c u a1 a2 a3 a4 a5 a8 a9) (h2 : gt = true → x2 = nI t) (h3 : cz_arg 0 gy Y x3) (hz : gy = true → z = nI (cz_F gs (-1) Y s))
    (hp : post 1 ()) : wL_lawOf_279 post mc ms x2 x3 (nI gs.toNat) (nI gt.toNat) (nI gy.toNat) (nI V) (nI F) (nI G) z kc ks d c ((-1)) u a1 a2 a3 a4 a5 a6 a7 a8 a9 a10 a11 a12 a13 := by
  have P' := P
  obtain ⟨C, hs, ht, hV, hS, hF, hG, hu⟩ := P'
  obtain ⟨hY, h3t, h3f⟩ := h3
  cases gy with
  | false => exact cz_wifN (h3f rfl).2 (br_t rfl (cz_L319 P h2 rfl hp))
  | true =>
    obtain ⟨e3, _⟩ := h3t rfl
    have ez := hz rfl
    subst e3
    subst ez
    refine cz_wif C hs ht hY hS rfl rfl (fun b8 b9 b10 b11 b12 hS' => br_f (by decide) ?_)
    cases gt with
    | false => exact br_t rfl (cz_L319 (cz_P0 P hS') h2 rfl hp)
    | true =>
      refine br_f (by decide) ⟨by decide, cz_L319 (cz_P0 P hS') h2 ?_ hp⟩
      have hf : cz_F gs (-1) Y s ≤ 100 := cz_Fle hY hs
      rw [h2 rfl, cz_100 hf, cz_mds (by omega) ht, cz_Gt]
theorem cz_L243 {z : Int32} (P : cz_P gs gt s t V F G c u a1 a2 a3 a4 a5 a8 a9) (h1 : gs = true → x1 = nI s) (h2 : gt = true → x2 = nI t) (h3 : cz_arg 0 gy Y x3) (hz : z = nI G)
    (hp : post 1 ()) : wL_lawOf_243 post mc ms x1 x2 x3 (nI gs.toNat) (nI gt.toNat) (nI gy.toNat) (nI V) (nI F) z kc ks d c ((-1)) u a1 a2 a3 a4 a5 a6 a7 a8 a9 a10 a11 a12 a13 := by
  subst hz
  have P' := P
  obtain ⟨C, hs, ht, hV, hS, hF, hG, hu⟩ := P'
  refine cz_cert C hs ht hV hS hF hG hu (fun u' b9 b10 b11 b12 hv => br_t rfl ?_)
  have P1 : cz_P gs gt s t V F G c u' a1 a2 a3 a4 a5 a8 b9 := ⟨C, hs, ht, hV, hS, hF, hG, fun _ => hv⟩
  cases gs with
  | false => exact br_t rfl (cz_L279 P1 h2 h3 (fun _ => rfl) hp)
  | true =>
    refine br_f (by decide) ?_
    cases gy with
    | false => exact br_t rfl (cz_L279 P1 h2 h3 (fun z => Bool.noConfusion z) hp)
    | true =>
      refine br_f (by decide) ⟨by decide, cz_L279 P1 h2 h3 (fun _ => ?_) hp⟩
      rw [(h3.2.1 rfl).1, h1 rfl, cz_mds h3.1 hs, cz_Ft]
theorem cz_L222 {z : Int32} (P : cz_P gs gt s t V F G c u a1 a2 a3 a4 a5 a8 a9) (h1 : gs = true → x1 = nI s) (h2 : gt = true → x2 = nI t) (h3 : cz_arg 0 gy Y x3) (hz : z = nI F)
    (hp : post 1 ()) : wL_lawOf_222 post mc ms x1 x2 x3 (nI gs.toNat) (nI gt.toNat) (nI gy.toNat) (nI V) z kc ks d c ((-1)) u a1 a2 a3 a4 a5 a6 a7 a8 a9 a10 a11 a12 a13 := by
  subst hz
  have P' := P
  obtain ⟨C, hs, ht, hV, hS, hF, hG, hu⟩ := P'
  have hF1 : F ≤ 100 := by rw [hF]; exact cz_Fle hV hs
  cases gt with
  | false =>
    refine br_t rfl (cz_L243 P h1 h2 h3 ?_ hp)
    rw [hG]
    rfl
  | true =>
    refine br_f (by decide) ⟨by decide, cz_L243 P h1 h2 h3 ?_ hp⟩
    rw [h2 rfl, cz_100 hF1, cz_mds (by omega) ht, hG, cz_Gt]
theorem cz_L204 (P : cz_P gs gt s t V F G c u a1 a2 a3 a4 a5 a8 a9) (h1 : gs = true → x1 = nI s) (h2 : gt = true → x2 = nI t) (h3 : cz_arg 0 gy Y x3)
    (hp : post 1 ()) : wL_lawOf_204 post mc ms x1 x2 x3 (nI gs.toNat) (nI gt.toNat) (nI gy.toNat) (nI V) kc ks d c ((-1)) u a1 a2 a3 a4 a5 a6 a7 a8 a9 a10 a11 a12 a13 := by
  have P' := P
  obtain ⟨C, hs, ht, hV, hS, hF, hG, hu⟩ := P'
  cases gs with
  | false =>
    refine br_t rfl (cz_L222 P h1 h2 h3 ?_ hp)
    rw [hF]
    rfl
  | true =>
    refine br_f (by decide) ⟨by decide, cz_L222 P h1 h2 h3 ?_ hp⟩
    rw [h1 rfl, cz_mds hV hs, hF, cz_Ft]
end
end
section
section
variable {d c k u : Int32} {a1 a2 a3 a4 a5 a6 a7 a8 a9 a10 a11 a12 a13 : Nat → Int32}
variable {post : Int32 → St0 → Prop} {mc ms kc ks : Nat} {x0 x1 x2 x3 : Int32} {gx gs gt gy : Bool} {X s t Y V F G : Nat}
theorem cz_L189 {z z' : Int32} (P : cz_P gs gt s t X F G c u a1 a2 a3 a4 a5 a8 a9) (h0 : cz_arg 0 gx X x0) (h1 : cz_arg 1 gs s x1) (h2 : cz_arg 1 gt t x2) (h3 : cz_arg 0 gy Y x3) (hz : z' = z)
    (hp : post 1 ()) : wL_lawOf_189 post mc ms x0 x1 x2 x3 (nI gx.toNat) (nI gs.toNat) (nI gt.toNat) (nI gy.toNat) z z' kc ks d c ((-1)) u a1 a2 a3 a4 a5 a6 a7 a8 a9 a10 a11 a12 a13 := by
  refine br_t hz ?_
  cases gx with
  | false =>
    obtain ⟨e, _⟩ := h0.2.2 rfl
    subst e
    exact br_t rfl (cz_L204 P (fun z => (h1.2.1 z).1) (fun z => (h2.2.1 z).1) h3 hp)
  | true =>
    obtain ⟨e, _⟩ := h0.2.1 rfl
    subst e
    exact br_f (by decide) (cz_L204 P (fun z => (h1.2.1 z).1) (fun z => (h2.2.1 z).1) h3 hp)
theorem cz_L148 {z z' : Int32} (hC : cz_C gs false s t c a1 a2 a3 a4 a5) (hd : d = nI 0) (hu : u = 0) (hS : cz_S X a8) (h0 : cz_arg 0 gx X x0) (h1 : cz_arg 1 gs s x1) (h2 : cz_arg 1 gt t x2) (h3 : cz_arg 0 gy Y x3) (hz : z' = z)
    (hp : post 1 ()) : wL_lawOf_148 post mc ms x0 x1 x2 x3 (nI gx.toNat) (nI gs.toNat) (nI gt.toNat) (nI gy.toNat) z z' kc ks d c ((-1)) u a1 a2 a3 a4 a5 a6 a7 a8 a9 a10 a11 a12 a13 := by
  refine br_t hz (cz_prem (p := 4) (g := 1) (by omega) (by omega) hd ?_)
  have hgn : gs.toNat ≤ 1 := by cases gs <;> decide
  have h2' := h2
  obtain ⟨ht, h2t, h2f⟩ := h2'
  cases gt with
  | false =>
    exact cz_ruleN (h := 8) (by omega) (h2f rfl).2 (br_t rfl (cz_L189 ⟨hC, h1.1, ht, h0.1, hS, rfl, rfl, fun z => absurd hu z⟩ h0 h1 h2 h3 rfl hp))
  | true =>
    obtain ⟨e2, ht1⟩ := h2t rfl
    subst e2
    refine cz_rule (n := gs.toNat) (h := 8) (p := 4) (g := 1) hgn (by omega) (by omega) (by omega) (by omega) ht ht1 hC.1 rfl pk_us pk_us (br_f (by decide) ?_)
    have C' : cz_C gs true s t (nI (gs.toNat + 1)) (upd a1 gs.toNat (nI 8)) (upd a2 gs.toNat (nI t)) (upd a3 gs.toNat (nI 1)) (upd a4 (3 * gs.toNat) (nI 4)) (upd a5 (3 * gs.toNat) (nI 1)) := by
      refine ⟨rfl, fun e => ?_, fun _ => ⟨pk_us, pk_us, pk_us, pk_us, pk_us⟩⟩
      subst e
      obtain ⟨r1, r2, r3, r4, r5⟩ := hC.2.1 rfl
      exact ⟨(pk_un (by decide)).trans r1, (pk_un (by decide)).trans r2, (pk_un (by decide)).trans r3, (pk_un (by decide)).trans r4, (pk_un (by decide)).trans r5⟩
    have L := fun (z z' : Int32) (hz : z' = z) => cz_L189 (d := 0) (u := 0) (a6 := upd a6 0 (nI 4)) (a7 := upd a7 0 (nI 1)) (a9 := a9) (a10 := a10) (a11 := a11) (a12 := a12) (a13 := a13) (mc := mc) (ms := ms) (kc := kc) (ks := ks) ⟨C', h1.1, ht, h0.1, hS, rfl, rfl, fun z => absurd rfl z⟩ h0 h1 h2 h3 hz hp
    cases gs with
    | false => exact br_t rfl (L 0 (nI 0) rfl)
    | true => exact br_f (by decide) (L 1 (nI 1) rfl)
theorem cz_L128 {z z' : Int32} (hC : cz_C gs false s t c a1 a2 a3 a4 a5) (hd : d = nI (1 - gs.toNat)) (hu : u = 0) (hS : cz_S X a8) (h0 : cz_arg 0 gx X x0) (h1 : cz_arg 1 gs s x1) (h2 : cz_arg 1 gt t x2) (h3 : cz_arg 0 gy Y x3) (hz : z' = z)
    (hp : post 1 ()) : wL_lawOf_128 post mc ms x0 x1 x2 x3 (nI gx.toNat) (nI gs.toNat) (nI gt.toNat) (nI gy.toNat) z z' kc ks d c ((-1)) u a1 a2 a3 a4 a5 a6 a7 a8 a9 a10 a11 a12 a13 := by
  refine br_t hz ?_
  cases gs with
  | false => exact br_t rfl (cz_L148 hC rfl hu hS h0 h1 h2 h3 hd hp)
  | true => exact br_f (show ¬ nI true.toNat = 0 by decide) (cz_L148 hC rfl hu hS h0 h1 h2 h3 hd hp)
theorem cz_L97 {z z' : Int32} (hd : d = nI 0) (hc : c = nI 0) (hu : u = 0) (hS : cz_S X a8) (h0 : cz_arg 0 gx X x0) (h1 : cz_arg 1 gs s x1) (h2 : cz_arg 1 gt t x2) (h3 : cz_arg 0 gy Y x3) (hz : z' = z)
    (hp : post 1 ()) : wL_lawOf_97 post mc ms x0 x1 x2 x3 (nI gx.toNat) (nI gs.toNat) (nI gt.toNat) (nI gy.toNat) z z' kc ks d c ((-1)) u a1 a2 a3 a4 a5 a6 a7 a8 a9 a10 a11 a12 a13 := by
  refine br_t hz (cz_prem (p := 0) (g := 0) (by omega) (by omega) hd ?_)
  have h1' := h1
  obtain ⟨hs, h1t, h1f⟩ := h1'
  cases gs with
  | false =>
    exact cz_ruleN (h := 4) (by omega) (h1f rfl).2 (br_t rfl (cz_L128 ⟨hc, (fun z => Bool.noConfusion z), (fun z => Bool.noConfusion z)⟩ rfl hu hS h0 h1 h2 h3 rfl hp))
  | true =>
    obtain ⟨e1, hs1⟩ := h1t rfl
    subst e1
    exact cz_rule (n := 0) (h := 4) (p := 0) (g := 0) (by omega) (by omega) (by omega) (by omega) (by omega) hs hs1 hc rfl pk_us pk_us (br_f (by decide)
      (cz_L128 ⟨rfl, (fun _ => ⟨pk_us, pk_us, pk_us, pk_us, pk_us⟩), (fun z => Bool.noConfusion z)⟩ rfl rfl hS h0 h1 h2 h3 rfl hp))
theorem cz_L77 (hd : d = nI 0) (hc : c = nI 0) (hu : u = 0) (hS : cz_S 0 a8) (h0 : cz_arg 0 gx X x0) (h1 : cz_arg 1 gs s x1) (h2 : cz_arg 1 gt t x2) (h3 : cz_arg 0 gy Y x3)
    (hp : post 1 ()) : wL_lawOf_77 post mc ms x0 x1 x2 x3 (nI gx.toNat) (nI gs.toNat) (nI gt.toNat) (nI gy.toNat) kc ks d c ((-1)) u a1 a2 a3 a4 a5 a6 a7 a8 a9 a10 a11 a12 a13 := by
  refine cz_obs h0 hS (fun b8 e hS' => ?_) (fun e hS' => ?_)
  · subst e
    exact br_f (by decide) (cz_L97 hd hc rfl hS' h0 h1 h2 h3 rfl hp)
  · subst e
    exact br_t rfl (cz_L97 hd hc hu hS' h0 h1 h2 h3 rfl hp)
theorem cz_lawOf (hp : post 1 ()) : wpL_lawOf post 14 303 () x0 x1 x2 x3 := by
  obtain ⟨gx, X, h0⟩ := cz_argE (lo := 0) (by omega) x0
  obtain ⟨gs, s, h1⟩ := cz_argE (lo := 1) (by omega) x1
  obtain ⟨gt, t, h2⟩ := cz_argE (lo := 1) (by omega) x2
  obtain ⟨gy, Y, h3⟩ := cz_argE (lo := 0) (by omega) x3
  have z8 : cz_S 0 (fun _ => 0) := by
    intro j hj
    show (0 : Int32) = nI (if j = 0 then 0 else 0)
    rw [ite_self]
    rfl
  have K77 := cz_L77 (d := 0) (c := 0) (u := 0) (a1 := fun _ => 0) (a2 := fun _ => 0) (a3 := fun _ => 0) (a4 := fun _ => 0) (a5 := fun _ => 0) (a6 := fun _ => 0) (a7 := fun _ => 0) (a8 := fun _ => 0) (a9 := fun _ => 0) (a10 := fun _ => 0) (a11 := fun _ => 0) (a12 := fun _ => 0) (a13 := fun _ => 0) (mc := 14) (ms := 303) (kc := 1 + 13) (ks := 17 + 286) rfl rfl rfl z8 h0 h1 h2 h3 hp
  have K60 : wL_lawOf_60 post 14 303 x0 x1 x2 x3 (nI gx.toNat) (nI gs.toNat) (nI gt.toNat) (1 + 13) (17 + 286) 0 0 ((-1)) 0 (fun _ => 0) (fun _ => 0) (fun _ => 0) (fun _ => 0) (fun _ => 0) (fun _ => 0) (fun _ => 0) (fun _ => 0) (fun _ => 0) (fun _ => 0) (fun _ => 0) (fun _ => 0) (fun _ => 0) :=
    cz_flag (A := fun z => wL_lawOf_77 post 14 303 x0 x1 x2 x3 (nI gx.toNat) (nI gs.toNat) (nI gt.toNat) z (1 + 13) (17 + 286) 0 0 ((-1)) 0 (fun _ => 0) (fun _ => 0) (fun _ => 0) (fun _ => 0) (fun _ => 0) (fun _ => 0) (fun _ => 0) (fun _ => 0) (fun _ => 0) (fun _ => 0) (fun _ => 0) (fun _ => 0) (fun _ => 0)) (lo := 0) (by omega) h3 K77
  have K42 : wL_lawOf_42 post 14 303 x0 x1 x2 x3 (nI gx.toNat) (nI gs.toNat) (1 + 13) (17 + 286) 0 0 ((-1)) 0 (fun _ => 0) (fun _ => 0) (fun _ => 0) (fun _ => 0) (fun _ => 0) (fun _ => 0) (fun _ => 0) (fun _ => 0) (fun _ => 0) (fun _ => 0) (fun _ => 0) (fun _ => 0) (fun _ => 0) :=
    cz_flag (A := fun z => wL_lawOf_60 post 14 303 x0 x1 x2 x3 (nI gx.toNat) (nI gs.toNat) z (1 + 13) (17 + 286) 0 0 ((-1)) 0 (fun _ => 0) (fun _ => 0) (fun _ => 0) (fun _ => 0) (fun _ => 0) (fun _ => 0) (fun _ => 0) (fun _ => 0) (fun _ => 0) (fun _ => 0) (fun _ => 0) (fun _ => 0) (fun _ => 0)) (lo := 1) (by omega) h2 K60
  have K24 : wL_lawOf_24 post 14 303 x0 x1 x2 x3 (nI gx.toNat) (1 + 13) (17 + 286) 0 0 ((-1)) 0 (fun _ => 0) (fun _ => 0) (fun _ => 0) (fun _ => 0) (fun _ => 0) (fun _ => 0) (fun _ => 0) (fun _ => 0) (fun _ => 0) (fun _ => 0) (fun _ => 0) (fun _ => 0) (fun _ => 0) :=
    cz_flag (A := fun z => wL_lawOf_42 post 14 303 x0 x1 x2 x3 (nI gx.toNat) z (1 + 13) (17 + 286) 0 0 ((-1)) 0 (fun _ => 0) (fun _ => 0) (fun _ => 0) (fun _ => 0) (fun _ => 0) (fun _ => 0) (fun _ => 0) (fun _ => 0) (fun _ => 0) (fun _ => 0) (fun _ => 0) (fun _ => 0) (fun _ => 0)) (lo := 1) (by omega) h1 K42
  refine ⟨by omega, by omega, 13, 286, by omega, by omega, ?_⟩
  refine ⟨by omega, by omega, by omega, by omega, by omega, by omega, by omega, by omega, by omega, by omega, by omega, by omega, by omega, by omega, by omega, by omega, by omega, by omega, by omega, by omega, by omega, by omega, by omega, by omega, by omega, by omega, ?_⟩
  exact cz_flag (A := fun z => wL_lawOf_24 post 14 303 x0 x1 x2 x3 z (1 + 13) (17 + 286) 0 0 ((-1)) 0 (fun _ => 0) (fun _ => 0) (fun _ => 0) (fun _ => 0) (fun _ => 0) (fun _ => 0) (fun _ => 0) (fun _ => 0) (fun _ => 0) (fun _ => 0) (fun _ => 0) (fun _ => 0) (fun _ => 0)) (lo := 0) (by omega) h0 K24
theorem cz_cell {P : Int32 → Prop} {L : Nat} {xs : Nat → Int32} (n : Nat) (hL : L ≤ 4) (hn : n < 4) (H : ∀ r, P r) : wpL_cellAt P L xs () (nI n) :=
  pk_le L n (fun _ => H 0) (fun z => ⟨pk_in n L z, H _⟩)
theorem i_vc (xs : Nat → Int32) (L : Nat) (hL : L ≤ 4) : wpL_law (fun r => r = 1) L xs :=
  cz_cell 0 hL (by omega) (fun _ => cz_cell 1 hL (by omega) (fun _ => cz_cell 2 hL (by omega) (fun _ => cz_cell 3 hL (by omega) (fun _ => ⟨14, 303, by omega, by omega, cz_lawOf rfl⟩))))
end
end
