section
/-- small whole numbers as ints -/
def ej_z (z : Int) : Int32 := Int32.ofInt z
theorem ej_ti {z : Int} (h : -1000 ≤ z ∧ z ≤ 1000) : (ej_z z).toInt = z :=
  Int32.toInt_ofInt_of_le (by omega) (by omega)
theorem ej_leI {a b : Int} (ha : -1000 ≤ a ∧ a ≤ 1000) (hb : -1000 ≤ b ∧ b ≤ 1000) : ej_z a ≤ ej_z b ↔ a ≤ b := by
  rw [Int32.le_iff_toInt_le, ej_ti ha, ej_ti hb]
theorem ej_ltI {a b : Int} (ha : -1000 ≤ a ∧ a ≤ 1000) (hb : -1000 ≤ b ∧ b ≤ 1000) : ej_z a < ej_z b ↔ a < b := by
  rw [Int32.lt_iff_toInt_lt, ej_ti ha, ej_ti hb]
theorem ej_eqI {a b : Int} (ha : -1000 ≤ a ∧ a ≤ 1000) (hb : -1000 ≤ b ∧ b ≤ 1000) : ej_z a = ej_z b ↔ a = b := by
  rw [← Int32.toInt_inj, ej_ti ha, ej_ti hb]
theorem ej_add (a b : Int) : ej_z a + ej_z b = ej_z (a + b) := (Int32.ofInt_add a b).symm
theorem ej_sub (a b : Int) : ej_z a - ej_z b = ej_z (a - b) := (Int32.ofInt_sub a b).symm
theorem ej_p1 (a : Int) : ej_z a + 1 = ej_z (a + 1) := ej_add a 1
theorem ej_n1 : (-1 : Int32) = ej_z (-1) := by decide
theorem ej_m1 (a : Int) : ej_z a + (-1) = ej_z (a - 1) := by
  rw [ej_n1, ej_add]
  rfl
theorem ej_s1 (a : Int) : ej_z a - 1 = ej_z (a - 1) := ej_sub a 1
theorem ej_of {x : Int32} {a b : Int} (h1 : a ≤ x.toInt) (h2 : x.toInt ≤ b) : ∃ z : Int, a ≤ z ∧ z ≤ b ∧ x = ej_z z :=
  ⟨x.toInt, h1, h2, (Int32.ofInt_toInt x).symm⟩
theorem ej_byte {z : Int} (h : -128 ≤ z ∧ z ≤ 127) : (ej_z z).toInt8.toInt32 = ej_z z := by
  apply Int32.toInt_inj.mp
  rw [Int8.toInt_toInt32, Int32.toInt_toInt8, ej_ti (by omega), Int.bmod_def]
  omega
theorem ej_shr {a : Int} (h : 0 ≤ a ∧ a ≤ 1000) : ej_z a >>> ((1 : Int32) &&& 31) = ej_z (a / 2) := by
  apply Int32.toInt_inj.mp
  rw [pk_shr _ _ 1 (by decide), ej_ti (by omega), ej_ti (by omega), Int.shiftRight_eq_div_pow]
  rfl
theorem ej_cl {z : Int} (n : Nat) (h : z = (n : Int)) (hn : n ≤ 1000) : (ej_z z).toNatClampNeg = n := by
  have e : (ej_z z).toNatClampNeg = (ej_z z).toInt.toNat := rfl
  rw [e, ej_ti (by omega), h]
  rfl
theorem ej_in (z : Int) (N : Nat) (h : 0 ≤ z ∧ z < (N : Int)) (hN : N ≤ 1000) : vp_in (ej_z z) N := by
  rw [vp_in_iff, ej_ti (by omega)]
  exact h
theorem ej_le {x y : Int32} {A B : Prop} (a b : Int) (f : a ≤ b → A) (g : b < a → B) (hx : x = ej_z a := by rfl) (hy : y = ej_z b := by rfl) (ha : -1000 ≤ a ∧ a ≤ 1000 := by omega) (hb : -1000 ≤ b ∧ b ≤ 1000 := by omega) : (x ≤ y → A) ∧ (¬ x ≤ y → B) := by
  subst hx hy
  rw [ej_leI ha hb]
  exact ⟨f, fun z => g (by omega)⟩
theorem ej_lt {x y : Int32} {A B : Prop} (a b : Int) (f : a < b → A) (g : b ≤ a → B) (hx : x = ej_z a := by rfl) (hy : y = ej_z b := by rfl) (ha : -1000 ≤ a ∧ a ≤ 1000 := by omega) (hb : -1000 ≤ b ∧ b ≤ 1000 := by omega) : (x < y → A) ∧ (¬ x < y → B) := by
  subst hx hy
  rw [ej_ltI ha hb]
  exact ⟨f, fun z => g (by omega)⟩
theorem ej_eq {x y : Int32} {A B : Prop} (a b : Int) (f : a = b → A) (g : a ≠ b → B) (hx : x = ej_z a := by rfl) (hy : y = ej_z b := by rfl) (ha : -1000 ≤ a ∧ a ≤ 1000 := by omega) (hb : -1000 ≤ b ∧ b ≤ 1000 := by omega) : (x = y → A) ∧ (¬ x = y → B) := by
  subst hx hy
  rw [ej_eqI ha hb]
  exact ⟨f, g⟩
theorem ej_i0 : vp_in 0 8 := vp_in_iff.mpr (by decide)
theorem ej_i1 : vp_in 1 8 := vp_in_iff.mpr (by decide)
theorem ej_01 : (0 : Int32) + 1 = 1 := by decide
theorem ej_11 : (1 : Int32) + 1 = 2 := by decide
theorem ej_us {f : Nat → Int32} {k : Nat} {x y : Int32} (h : x = y) : upd f k x k = y := by
  rw [pk_us, h]
theorem ej_un {f : Nat → Int32} {k j : Nat} {x y : Int32} (h : j ≠ k) (e : f j = y) : upd f k x j = y := by
  rw [pk_un h, e]
end
section
section
variable {L n ra da rb db : Int} {cp le pk : Int32} {a1 a2 a3 a4 a5 a6 a7 a8 a9 a10 a11 : Nat → Int32}
theorem ej_grb {post : Int32 → Prop} (ab : Int) (hn : n = 1 ∨ n = 2) (Bab : 0 ≤ ab ∧ ab ≤ 41) (Ba : 0 ≤ ra ∧ ra ≤ 40) (Bb : 0 ≤ rb ∧ rb ≤ 40)
    (h70 : a7 0 = ej_z ra) (h71 : n = 2 → a7 1 = ej_z rb) (hp : ∀ b : Int, ((b = -1 ∧ ab ≤ ra ∧ (n = 1 ∨ ab ≤ rb)) ∨ (b = ra ∧ ra < ab ∧ (n = 1 ∨ ab ≤ rb ∨ rb ≤ ra)) ∨ (b = rb ∧ n = 2 ∧ rb < ab ∧ (ab ≤ ra ∨ ra < rb))) → post (ej_z b)) :
    wpX_greatestReleaseBelow post (ej_z L, cp, ej_z n, le, pk, a1, a2, a3, a4, a5, a6, a7, a8, a9, a10, a11) (ej_z ab) := by
  have k2 : ∀ b : Int, ((b = -1 ∧ ab ≤ ra ∧ (n = 1 ∨ ab ≤ rb)) ∨ (b = ra ∧ ra < ab ∧ (n = 1 ∨ ab ≤ rb ∨ rb ≤ ra)) ∨ (b = rb ∧ n = 2 ∧ rb < ab ∧ (ab ≤ ra ∨ ra < rb))) → n = 2 → wX_greatestReleaseBelow_4 post (ej_z ab) (ej_z L) cp (ej_z n) le pk a1 a2 a3 a4 a5 a6 a7 a8 a9 a10 a11 1 (ej_z b) 2 := fun b hb h2 => ej_le n 2 (fun _ => hp b hb) (fun h => absurd h (by omega))
  have k1 : ∀ b : Int, ((b = -1 ∧ ab ≤ ra) ∨ (b = ra ∧ ra < ab)) → wX_greatestReleaseBelow_4 post (ej_z ab) (ej_z L) cp (ej_z n) le pk a1 a2 a3 a4 a5 a6 a7 a8 a9 a10 a11 2 (ej_z b) 1 := fun b hb =>
    ej_le n 1 (fun h => hp b (by omega)) (fun h => ⟨ej_i1,
      ej_le ab rb (fun g => nm_r ej_11 (k2 b (by omega) (by omega))) (fun g => ⟨ej_i1,
        ej_le rb b (fun g2 => nm_r ej_11 (k2 b (by omega) (by omega))) (fun g2 => ⟨ej_i1, nm_r (h71 (by omega)) (nm_r ej_11 (k2 rb (by omega) (by omega)))⟩) (h71 (by omega)) rfl⟩) rfl (h71 (by omega))⟩)
  refine Exists.intro 3 ?_
  rw [ej_n1]
  exact (ej_le n 0 (fun h => absurd h (by omega)) (fun h => ⟨ej_i0,
      ej_le ab ra (fun g => nm_r ej_01 (k1 (-1) (by omega))) (fun g => ⟨ej_i0,
        ej_le ra (-1) (fun g2 => absurd g2 (by omega)) (fun g2 => ⟨ej_i0, nm_r h70 (nm_r ej_01 (k1 ra (by omega)))⟩) h70 rfl⟩) rfl h70⟩))
/-- how many of the windows lie within r and d -/
def ej_cw (n ra da rb db r d : Int) : Int := (if r ≤ ra ∧ da ≤ d then 1 else 0) + (if n = 2 ∧ r ≤ rb ∧ db ≤ d then 1 else 0)
theorem ej_cwW {post : Int32 → Prop} (r d : Int) (hn : n = 1 ∨ n = 2) (Br : 0 ≤ r ∧ r ≤ 41) (Bd : 0 ≤ d ∧ d ≤ 41) (Ba : 0 ≤ ra ∧ ra ≤ 40) (Bb : 0 ≤ rb ∧ rb ≤ 40) (Ca : 0 ≤ da ∧ da ≤ 40) (Cb : 0 ≤ db ∧ db ≤ 40)
    (h70 : a7 0 = ej_z ra) (h71 : n = 2 → a7 1 = ej_z rb) (h80 : a8 0 = ej_z da) (h81 : n = 2 → a8 1 = ej_z db) (hp : post (ej_z (ej_cw n ra da rb db r d))) :
    wpX_countWithin post (ej_z L, cp, ej_z n, le, pk, a1, a2, a3, a4, a5, a6, a7, a8, a9, a10, a11) (ej_z r) (ej_z d) := by
  have hp' : ∀ c : Int, c = (if r ≤ ra ∧ da ≤ d then 1 else 0) + (if n = 2 ∧ r ≤ rb ∧ db ≤ d then 1 else 0) → post (ej_z c) := fun c hc => by
    rw [hc]; exact hp
  have k2 : ∀ c : Int, c = (if r ≤ ra ∧ da ≤ d then 1 else 0) + (if n = 2 ∧ r ≤ rb ∧ db ≤ d then 1 else 0) → n = 2 → wX_countWithin_5 post (ej_z r) (ej_z d) (ej_z L) cp (ej_z n) le pk a1 a2 a3 a4 a5 a6 a7 a8 a9 a10 a11 1 (ej_z c) 2 := fun c hc h2 => ej_le n 2 (fun _ => hp' c hc) (fun h => absurd h (by omega))
  have k1 : ∀ c : Int, c = (if r ≤ ra ∧ da ≤ d then 1 else 0) → wX_countWithin_5 post (ej_z r) (ej_z d) (ej_z L) cp (ej_z n) le pk a1 a2 a3 a4 a5 a6 a7 a8 a9 a10 a11 2 (ej_z c) 1 := fun c hc =>
    ej_le n 1 (fun h => hp' c (by omega)) (fun h => ⟨ej_i1,
      ej_lt rb r (fun g => nm_r ej_11 (k2 c (by omega) (by omega))) (fun g => ⟨ej_i1,
        ej_lt d db (fun g2 => nm_r ej_11 (k2 c (by omega) (by omega))) (fun g2 => nm_r (ej_p1 c) (nm_r ej_11 (k2 (c + 1) (by omega) (by omega)))) rfl (h81 (by omega))⟩) (h71 (by omega)) rfl⟩)
  exact Exists.intro 3 (ej_le n 0 (fun h => absurd h (by omega)) (fun h => ⟨ej_i0,
      ej_lt ra r (fun g => nm_r ej_01 (k1 0 (by omega))) (fun g => ⟨ej_i0,
        ej_lt d da (fun g2 => nm_r ej_01 (k1 0 (by omega))) (fun g2 => nm_r (ej_p1 0) (nm_r ej_01 (k1 (0 + 1) (by omega)))) rfl h80⟩) h70 rfl⟩))
theorem ej_lwr {post : Int32 → Prop} (v0 v1 : Int) (hn : n = 1 ∨ n = 2) (V0 : 0 ≤ v0 ∧ v0 ≤ 1) (V1 : 0 ≤ v1 ∧ v1 ≤ 1) (Ba : 0 ≤ ra ∧ ra ≤ 40) (Bb : 0 ≤ rb ∧ rb ≤ 40)
    (h70 : a7 0 = ej_z ra) (h71 : n = 2 → a7 1 = ej_z rb) (h90 : a9 0 = ej_z v0) (h91 : n = 2 → a9 1 = ej_z v1) (hp : ∀ b : Int, ((b = 41 ∧ v0 ≠ 0 ∧ (n = 1 ∨ v1 ≠ 0)) ∨ (b = ra ∧ v0 = 0 ∧ (n = 1 ∨ v1 ≠ 0 ∨ ra ≤ rb)) ∨ (b = rb ∧ n = 2 ∧ v1 = 0 ∧ (v0 ≠ 0 ∨ rb < ra))) → post (ej_z b)) :
    wpX_leastWaitingRelease post (ej_z L, cp, ej_z n, le, pk, a1, a2, a3, a4, a5, a6, a7, a8, a9, a10, a11) := by
  have k2 : ∀ b : Int, ((b = 41 ∧ v0 ≠ 0 ∧ (n = 1 ∨ v1 ≠ 0)) ∨ (b = ra ∧ v0 = 0 ∧ (n = 1 ∨ v1 ≠ 0 ∨ ra ≤ rb)) ∨ (b = rb ∧ n = 2 ∧ v1 = 0 ∧ (v0 ≠ 0 ∨ rb < ra))) → n = 2 → wX_leastWaitingRelease_5 post (ej_z L) cp (ej_z n) le pk a1 a2 a3 a4 a5 a6 a7 a8 a9 a10 a11 1 (ej_z b) 2 := fun b hb h2 => ej_le n 2 (fun _ => hp b hb) (fun h => absurd h (by omega))
  have k1 : ∀ b : Int, ((b = 41 ∧ v0 ≠ 0) ∨ (b = ra ∧ v0 = 0)) → wX_leastWaitingRelease_5 post (ej_z L) cp (ej_z n) le pk a1 a2 a3 a4 a5 a6 a7 a8 a9 a10 a11 2 (ej_z b) 1 := fun b hb =>
    ej_le n 1 (fun h => hp b (by omega)) (fun h => ⟨ej_i1,
      ej_eq v1 0 (fun g => ⟨ej_i1,
        ej_le b rb (fun g2 => nm_r ej_11 (k2 b (by omega) (by omega))) (fun g2 => ⟨ej_i1, nm_r (h71 (by omega)) (nm_r ej_11 (k2 rb (by omega) (by omega)))⟩) rfl (h71 (by omega))⟩) (fun g => nm_r ej_11 (k2 b (by omega) (by omega))) (h91 (by omega)) rfl⟩)
  exact Exists.intro 3 (ej_le n 0 (fun h => absurd h (by omega)) (fun h => ⟨ej_i0,
      ej_eq v0 0 (fun g => ⟨ej_i0,
        ej_le 41 ra (fun g2 => absurd g2 (by omega)) (fun g2 => ⟨ej_i0, nm_r h70 (nm_r ej_01 (k1 ra (by omega)))⟩) rfl h70⟩) (fun g => nm_r ej_01 (k1 41 (by omega))) h90 rfl⟩))
theorem ej_mu {post : Int32 → Prop} (t v0 v1 : Int) (hn : n = 1 ∨ n = 2) (Bt : 0 ≤ t ∧ t ≤ 60) (V0 : 0 ≤ v0 ∧ v0 ≤ 1) (V1 : 0 ≤ v1 ∧ v1 ≤ 1) (Ba : 0 ≤ ra ∧ ra ≤ 40) (Bb : 0 ≤ rb ∧ rb ≤ 40) (Ca : 0 ≤ da ∧ da ≤ 40) (Cb : 0 ≤ db ∧ db ≤ 40)
    (h70 : a7 0 = ej_z ra) (h71 : n = 2 → a7 1 = ej_z rb) (h80 : a8 0 = ej_z da) (h81 : n = 2 → a8 1 = ej_z db) (h90 : a9 0 = ej_z v0) (h91 : n = 2 → a9 1 = ej_z v1) (hp : ∀ b : Int, ((b = -1 ∧ (v0 ≠ 0 ∨ t < ra) ∧ (n = 1 ∨ v1 ≠ 0 ∨ t < rb)) ∨ (b = 0 ∧ v0 = 0 ∧ ra ≤ t ∧ (n = 1 ∨ v1 ≠ 0 ∨ t < rb ∨ da ≤ db)) ∨ (b = 1 ∧ n = 2 ∧ v1 = 0 ∧ rb ≤ t ∧ (v0 ≠ 0 ∨ t < ra ∨ db < da))) → post (ej_z b)) :
    wpX_mostUrgent post (ej_z L, cp, ej_z n, le, pk, a1, a2, a3, a4, a5, a6, a7, a8, a9, a10, a11) (ej_z t) := by
  have k2 : ∀ b : Int, ((b = -1 ∧ (v0 ≠ 0 ∨ t < ra) ∧ (n = 1 ∨ v1 ≠ 0 ∨ t < rb)) ∨ (b = 0 ∧ v0 = 0 ∧ ra ≤ t ∧ (n = 1 ∨ v1 ≠ 0 ∨ t < rb ∨ da ≤ db)) ∨ (b = 1 ∧ n = 2 ∧ v1 = 0 ∧ rb ≤ t ∧ (v0 ≠ 0 ∨ t < ra ∨ db < da))) → n = 2 → wX_mostUrgent_4 post (ej_z t) (ej_z L) cp (ej_z n) le pk a1 a2 a3 a4 a5 a6 a7 a8 a9 a10 a11 1 (ej_z b) 2 := fun b hb h2 => ej_le n 2 (fun _ => hp b hb) (fun h => absurd h (by omega))
  have k1a : (v0 ≠ 0 ∨ t < ra) → wX_mostUrgent_4 post (ej_z t) (ej_z L) cp (ej_z n) le pk a1 a2 a3 a4 a5 a6 a7 a8 a9 a10 a11 2 (ej_z (-1)) 1 := fun hb =>
    ej_le n 1 (fun h => hp (-1) (by omega)) (fun h => ⟨ej_i1,
      ej_eq v1 0 (fun g => ⟨ej_i1,
        ej_lt t rb (fun g2 => nm_r ej_11 (k2 (-1) (by omega) (by omega))) (fun g2 =>
          ej_lt (-1) 0 (fun _ => nm_r ej_11 (k2 1 (by omega) (by omega))) (fun g3 => absurd g3 (by omega))) rfl (h71 (by omega))⟩) (fun g => nm_r ej_11 (k2 (-1) (by omega) (by omega))) (h91 (by omega)) rfl⟩)
  have k1b : (v0 = 0 ∧ ra ≤ t) → wX_mostUrgent_4 post (ej_z t) (ej_z L) cp (ej_z n) le pk a1 a2 a3 a4 a5 a6 a7 a8 a9 a10 a11 2 (ej_z 0) 1 := fun hb =>
    ej_le n 1 (fun h => hp 0 (by omega)) (fun h => ⟨ej_i1,
      ej_eq v1 0 (fun g => ⟨ej_i1,
        ej_lt t rb (fun g2 => nm_r ej_11 (k2 0 (by omega) (by omega))) (fun g2 =>
          ej_lt 0 0 (fun g3 => absurd g3 (by omega)) (fun _ => ⟨ej_i1, ej_i0, ej_le da db (fun g4 => nm_r ej_11 (k2 0 (by omega) (by omega))) (fun g4 => nm_r ej_11 (k2 1 (by omega) (by omega))) h80 (h81 (by omega))⟩)) rfl (h71 (by omega))⟩) (fun g => nm_r ej_11 (k2 0 (by omega) (by omega))) (h91 (by omega)) rfl⟩)
  refine Exists.intro 3 ?_
  rw [ej_n1]
  exact (ej_le n 0 (fun h => absurd h (by omega)) (fun h => ⟨ej_i0,
      ej_eq v0 0 (fun g => ⟨ej_i0,
        ej_lt t ra (fun g2 => nm_r ej_01 (k1a (by omega))) (fun g2 =>
          ej_lt (-1) 0 (fun _ => nm_r ej_01 (k1b (by omega))) (fun g3 => absurd g3 (by omega))) rfl h70⟩) (fun g => nm_r ej_01 (k1a (by omega))) h90 rfl⟩))
end
end
section
section
variable {L n ra da rb db : Int} {cp le pk : Int32} {a1 a2 a3 a4 a5 a6 a7 a8 a9 a10 a11 : Nat → Int32}
/-- from t backwards to the first place not shut, where lo < . < hi is shut -/
def ej_ob (lo hi t : Int) : Int := if t < 0 then -1 else if lo < t ∧ t < hi then (if lo < 0 then -1 else lo) else t
/-- from t onwards -/
def ej_oa (lo hi t : Int) : Int := if lo < t ∧ t < hi then hi else t
/-- the places from m on: shut are those between lo and hi -/
def ej_sh (a : Nat → Int32) (m lo hi : Int) : Prop := ∀ j : Nat, m ≤ (j : Int) → j < 48 → (a j = 0 ↔ ¬ (lo < (j : Int) ∧ (j : Int) < hi))
theorem ej_obN {lo hi t : Int} (h : t < 0) : ej_ob lo hi t = -1 := by
  unfold ej_ob; rw [if_pos h]
theorem ej_obO {lo hi t : Int} (h : 0 ≤ t) (g : ¬ (lo < t ∧ t < hi)) : ej_ob lo hi t = t := by
  unfold ej_ob; rw [if_neg (by omega), if_neg g]
theorem ej_obS {lo hi t : Int} (h : 0 ≤ t) (g : lo < t ∧ t < hi) : ej_ob lo hi t = if lo < 0 then -1 else lo := by
  unfold ej_ob; rw [if_neg (by omega), if_pos g]
theorem ej_obB {lo hi t : Int} (hl : -100 ≤ lo) : -1 ≤ ej_ob lo hi t ∧ (ej_ob lo hi t ≤ t ∨ ej_ob lo hi t = -1) := by
  unfold ej_ob; split
  · omega
  · split
    · split <;> omega
    · omega
theorem ej_obP {lo hi t : Int} (h : 0 ≤ t) (g : lo < t ∧ t < hi) : ej_ob lo hi (t - 1) = ej_ob lo hi t := by
  rw [ej_obS h g]
  by_cases h1 : t - 1 < 0
  · rw [ej_obN h1, if_pos (by omega)]
  · by_cases h2 : lo < t - 1
    · rw [ej_obS (by omega) ⟨h2, by omega⟩]
    · rw [ej_obO (by omega) (by omega), if_neg (by omega)]; omega
theorem ej_obL {post : Int32 → Prop} {lo hi : Int} (hs : ej_sh a10 0 lo hi) : ∀ (k : Nat) (t : Int), t < (k : Int) → -100 ≤ t → t ≤ 47 → post (ej_z (ej_ob lo hi t)) → wX_openAtOrBefore_2 post (ej_z L) cp (ej_z n) le pk a1 a2 a3 a4 a5 a6 a7 a8 a9 a10 a11 (k + 1) (ej_z t) := by
  intro k
  induction k with
  | zero =>
    intro t h1 h2 h3 hp
    rw [ej_obN (by omega), ← ej_n1] at hp
    exact ej_lt t 0 (fun _ => ej_le 0 t (fun h => absurd h (by omega)) (fun _ => hp)) (fun h => absurd h (by omega))
  | succ k ih =>
    intro t h1 h2 h3 hp
    refine ej_lt t 0 (fun h => ej_le 0 t (fun h => absurd h (by omega)) (fun _ => ?_)) (fun h => ⟨ej_in t 48 (by omega) (by omega), ?_⟩)
    · rw [ej_obN (by omega), ← ej_n1] at hp
      exact hp
    · obtain ⟨j, rfl⟩ : ∃ j : Nat, t = (j : Int) := ⟨t.toNat, by omega⟩
      rw [ej_cl j rfl (by omega)]
      by_cases g : lo < (j : Int) ∧ (j : Int) < hi
      · exact br_f (fun z => ((hs j (by omega) (by omega)).mp z) g) (nm_r (ej_m1 j) (ih (j - 1) (by omega) (by omega) (by omega) (by rw [ej_obP h g]; exact hp)))
      · rw [ej_obO h g] at hp
        exact br_t ((hs j (by omega) (by omega)).mpr g) (ej_le 0 j (fun _ => hp) (fun h => absurd h (by omega)))
theorem ej_obW {post : Int32 → Prop} {lo hi : Int} (t : Int) (hs : ej_sh a10 0 lo hi) (h2 : -100 ≤ t) (h3 : t ≤ 47) (hp : post (ej_z (ej_ob lo hi t))) : wpX_openAtOrBefore post (ej_z L, cp, ej_z n, le, pk, a1, a2, a3, a4, a5, a6, a7, a8, a9, a10, a11) (ej_z t) :=
  Exists.intro (48 + 1) (ej_obL hs 48 t (by omega) h2 h3 hp)
theorem ej_oaL {post : Int32 → Prop} {m lo hi : Int} (hs : ej_sh a10 m lo hi) (hh : hi ≤ 47) : ∀ (k : Nat) (t : Int), 47 - t < (k : Int) → 0 ≤ t → m ≤ t → t ≤ 47 → post (ej_z (ej_oa lo hi t)) → wX_openAtOrAfter_2 post (ej_z L) cp (ej_z n) le pk a1 a2 a3 a4 a5 a6 a7 a8 a9 a10 a11 k (ej_z t) := by
  intro k
  induction k with
  | zero => intro t h1 h2 h3 h4 hp; omega
  | succ k ih =>
    intro t h1 h2 h3 h4 hp
    refine ej_le 47 t (fun h => ?_) (fun h => ⟨ej_in t 48 (by omega) (by omega), ?_⟩)
    · unfold ej_oa at hp
      rw [if_neg (by omega)] at hp
      exact hp
    · obtain ⟨j, rfl⟩ : ∃ j : Nat, t = (j : Int) := ⟨t.toNat, by omega⟩
      rw [ej_cl j rfl (by omega)]
      by_cases g : lo < (j : Int) ∧ (j : Int) < hi
      · refine br_f (fun z => ((hs j (by omega) (by omega)).mp z) g) (nm_r (ej_p1 j) (ih (j + 1) (by omega) (by omega) (by omega) (by omega) ?_))
        unfold ej_oa at hp ⊢
        rw [if_pos g] at hp
        by_cases g2 : (j : Int) + 1 < hi
        · rw [if_pos ⟨by omega, g2⟩]; exact hp
        · rw [if_neg (by omega), show (j : Int) + 1 = hi by omega]; exact hp
      · unfold ej_oa at hp
        rw [if_neg g] at hp
        exact br_t ((hs j (by omega) (by omega)).mpr g) hp
theorem ej_oaW {post : Int32 → Prop} {m lo hi : Int} (t : Int) (hs : ej_sh a10 m lo hi) (hh : hi ≤ 47) (h2 : 0 ≤ t) (h3 : m ≤ t) (h4 : t ≤ 47) (hp : post (ej_z (ej_oa lo hi t))) : wpX_openAtOrAfter post (ej_z L, cp, ej_z n, le, pk, a1, a2, a3, a4, a5, a6, a7, a8, a9, a10, a11) (ej_z t) :=
  Exists.intro 48 (ej_oaL hs hh 48 t (by omega) h2 h3 h4 hp)
/-- b is a, but shut between lo and hi -/
def ej_up (a b : Nat → Int32) (lo hi : Int) : Prop := ∀ j : Nat, j < 48 → ((lo < (j : Int) ∧ (j : Int) < hi → b j = 1) ∧ (¬ (lo < (j : Int) ∧ (j : Int) < hi) → b j = a j))
theorem ej_sbL {post : St2 → Prop} {lo hi : Int} (hh : -100 ≤ hi ∧ hi ≤ 47) (hp : ∀ b, ej_up a10 b lo hi → post (ej_z L, cp, ej_z n, le, pk, a1, a2, a3, a4, a5, a6, a7, a8, a9, b, a11)) : ∀ (k : Nat) (t : Int) (c : Nat → Int32), 48 - t < (k : Int) → 0 ≤ t → lo < t → t ≤ 48 → (∀ j : Nat, j < 48 → ((lo < (j : Int) ∧ (j : Int) < t ∧ (j : Int) < hi → c j = 1) ∧ (¬ (lo < (j : Int) ∧ (j : Int) < t ∧ (j : Int) < hi) → c j = a10 j))) → wX_shutBetween_12 post (ej_z hi) (ej_z L) cp (ej_z n) le pk k (ej_z t) a1 a2 a3 a4 a5 a6 a7 a8 a9 c a11 := by
  intro k
  induction k with
  | zero => intro t c h1 h2 h3 h4 hc; omega
  | succ k ih =>
    intro t c h1 h2 h3 h4 hc
    have fin : hi ≤ t → post (ej_z L, cp, ej_z n, le, pk, a1, a2, a3, a4, a5, a6, a7, a8, a9, c, a11) := fun h => hp c (fun j hj => ⟨fun z => (hc j hj).1 (by omega), fun z => (hc j hj).2 (by omega)⟩)
    refine ej_le hi t fin (fun h => ej_le 48 t (fun h' => fin (by omega)) (fun h' => ⟨ej_in t 48 (by omega) (by omega), ?_⟩))
    obtain ⟨i, rfl⟩ : ∃ i : Nat, t = (i : Int) := ⟨t.toNat, by omega⟩
    rw [ej_cl i rfl (by omega)]
    refine nm_e (nm_r (ej_p1 i) (ih (i + 1) _ (by omega) (by omega) (by omega) (by omega) (fun j hj => ?_)))
    by_cases e : j = i
    · subst e
      exact ⟨fun _ => pk_us, fun z => absurd ⟨h3, by omega, h⟩ z⟩
    · rw [pk_un e]
      exact ⟨fun z => (hc j hj).1 (by omega), fun z => (hc j hj).2 (by omega)⟩
theorem ej_sbW {post : St2 → Prop} {lo hi : Int} (hl : -100 ≤ lo ∧ lo ≤ 47) (hh : -100 ≤ hi ∧ hi ≤ 47) (hp : ∀ b, ej_up a10 b lo hi → post (ej_z L, cp, ej_z n, le, pk, a1, a2, a3, a4, a5, a6, a7, a8, a9, b, a11)) : wpX_shutBetween post (ej_z L, cp, ej_z n, le, pk, a1, a2, a3, a4, a5, a6, a7, a8, a9, a10, a11) (ej_z lo) (ej_z hi) := by
  refine ej_le 0 lo (fun h => nm_r (ej_p1 lo) (Exists.intro 50 ?_)) (fun h => Exists.intro 50 ?_)
  · exact ej_sbL hh hp 50 (lo + 1) a10 (by omega) (by omega) (by omega) (by omega) (fun j hj => ⟨fun z => absurd z (by omega), fun _ => rfl⟩)
  · exact ej_sbL hh hp 50 0 a10 (by omega) (by omega) (by omega) (by omega) (fun j hj => ⟨fun z => absurd z (by omega), fun _ => rfl⟩)
theorem ej_i4 {i : Nat} (h : i < 4) : vp_in (nI i) 4 := vp_in_nI h (by omega)
theorem ej_s23 {post : St2 → Prop} (h4 : ∀ j, j < 4 → a4 j = 0) (hp : post (ej_z L, cp, ej_z n, le, pk, a1, a2, a3, a4, a5, a6, a7, a8, a9, a10, a11)) : ∃ k, wX_shutBlocks_23 post k 0 (ej_z L) cp (ej_z n) le pk a1 a2 a3 a4 a5 a6 a7 a8 a9 a10 a11 :=
  pk_loop (σ := Unit) (fun k i _ => wX_shutBlocks_23 post k (nI i) (ej_z L) cp (ej_z n) le pk a1 a2 a3 a4 a5 a6 a7 a8 a9 a10 a11) (fun _ _ => True) 4 0 () (by omega) trivial
    (fun k _ _ => pk_le 4 4 (fun _ => hp) (fun z => absurd z (by omega)))
    (fun k i _ hi _ hw => pk_le 4 i (fun z => absurd z (by omega)) (fun _ => ⟨ej_i4 hi, br_t (by rw [nI_clamp (by omega)]; exact h4 i hi) (nm_r (nI_1 i) (hw () trivial))⟩))
theorem ej_shb {post : St2 → Prop} (h4 : ∀ j, j < 4 → a4 j = 0) (hp : ∀ b, (∀ j, j < 48 → b j = 0) → post (ej_z L, cp, ej_z n, le, pk, a1, a2, a3, a4, a5, a6, a7, a8, a9, b, a11)) : wpX_shutBlocks post (ej_z L, cp, ej_z n, le, pk, a1, a2, a3, a4, a5, a6, a7, a8, a9, a10, a11) :=
  pk_loop (fun k i c => wX_shutBlocks_2 post (ej_z L) cp (ej_z n) le pk k (nI i) a1 a2 a3 a4 a5 a6 a7 a8 a9 c a11) (fun i c => ∀ j, j < i → c j = 0) 48 0 a10 (by omega) (fun j hj => absurd hj (by omega))
    (fun k c h => pk_le 48 48 (fun _ => ej_s23 h4 (hp c h)) (fun z => absurd z (by omega)))
    (fun k i c hi h hw => pk_le 48 i (fun z => absurd z (by omega)) (fun _ => ⟨pk_in i 48 hi, nm_e (nm_r (nI_1 i) (hw _ (fun j hj => by
      rw [nI_clamp (by omega)]
      by_cases e : j = i
      · rw [e, pk_us]
      · rw [pk_un e]; exact h j (by omega))))⟩))
/-- count jobs packed backwards from d -/
def ej_bf (L lo hi d c : Int) : Int := if c = 0 then 41 else if c = 1 then ej_ob lo hi (d - L) else ej_ob lo hi (ej_ob lo hi (d - L) - L)
theorem ej_bfB {L lo hi d c : Int} (hl : -100 ≤ lo) (hL : 1 ≤ L ∧ L ≤ 6) (hd : 0 ≤ d ∧ d ≤ 40) : -1 ≤ ej_bf L lo hi d c ∧ ej_bf L lo hi d c ≤ 41 := by
  unfold ej_bf; split
  · omega
  · have h1 := ej_obB (lo := lo) (hi := hi) (t := d - L) hl
    split
    · omega
    · have h2 := ej_obB (lo := lo) (hi := hi) (t := ej_ob lo hi (d - L) - L) hl
      omega
theorem ej_bfW {post : Int32 → Prop} {lo hi : Int} (d c : Int) (hs : ej_sh a10 0 lo hi) (hl : -100 ≤ lo) (hL : 1 ≤ L ∧ L ≤ 6) (hd : 0 ≤ d ∧ d ≤ 40) (hc : c = 0 ∨ c = 1 ∨ c = 2) (hp : post (ej_z (ej_bf L lo hi d c))) : wpX_backFrom post (ej_z L, cp, ej_z n, le, pk, a1, a2, a3, a4, a5, a6, a7, a8, a9, a10, a11) (ej_z d) (ej_z c) := by
  have B1 := ej_obB (lo := lo) (hi := hi) (t := d - L) hl
  refine ej_eq c 0 (fun h => ?_) (fun h => Exists.intro 3 ?_)
  · unfold ej_bf at hp
    rw [if_pos h] at hp
    exact hp
  · unfold ej_bf at hp
    rw [if_neg h] at hp
    have k2 : c = 2 → wX_backFrom_12 post (ej_z c) (ej_z L) cp (ej_z n) le pk a1 a2 a3 a4 a5 a6 a7 a8 a9 a10 a11 1 (ej_z (ej_ob lo hi (ej_ob lo hi (d - L) - L))) 2 := fun h2 => ej_le c 2 (fun _ => by rw [if_neg (by omega)] at hp; exact hp) (fun z => absurd z (by omega))
    have k1 : wX_backFrom_12 post (ej_z c) (ej_z L) cp (ej_z n) le pk a1 a2 a3 a4 a5 a6 a7 a8 a9 a10 a11 2 (ej_z (ej_ob lo hi (d - L))) 1 := ej_le c 1 (fun z => by rw [if_pos (by omega)] at hp; exact hp) (fun z => by
      rw [ej_sub]
      exact ej_obW _ hs (by omega) (by omega) (nm_r ej_11 (k2 (by omega))))
    exact ej_le c 0 (fun z => absurd z (by omega)) (fun z => by
      rw [ej_sub]
      exact ej_obW _ hs (by omega) (by omega) (nm_r ej_01 k1))
end
end
section
section
variable {L n ra da rb db : Int} {cp le pk : Int32} {a1 a2 a3 a4 a5 a6 a7 a8 a9 a10 a11 : Nat → Int32}
theorem ej_oaG (lo hi t : Int) : t ≤ ej_oa lo hi t := by
  unfold ej_oa; split <;> omega
theorem ej_cwB (n ra da rb db r d : Int) : ej_cw n ra da rb db r d = 0 ∨ ej_cw n ra da rb db r d = 1 ∨ ej_cw n ra da rb db r d = 2 := by
  unfold ej_cw; split <;> split <;> omega
/-- the latest time at which the first job released at r or later must be under way -/
def ej_cr (n L ra da rb db lo hi r : Int) : Int :=
  if n = 2 then min (min 41 (ej_bf L lo hi da (ej_cw n ra da rb db r da))) (ej_bf L lo hi db (ej_cw n ra da rb db r db)) else min 41 (ej_bf L lo hi da (ej_cw n ra da rb db r da))
theorem ej_sbf {post : Int32 → St2 → Prop} {lo hi : Int} (r K : Int) (hn : n = 1 ∨ n = 2) (hL : 1 ≤ L ∧ L ≤ 6) (Ba : 0 ≤ ra ∧ ra ≤ 40) (Bb : 0 ≤ rb ∧ rb ≤ 40) (Ca : 0 ≤ da ∧ da ≤ 40) (Cb : 0 ≤ db ∧ db ≤ 40) (h70 : a7 0 = ej_z ra) (h71 : n = 2 → a7 1 = ej_z rb) (h80 : a8 0 = ej_z da) (h81 : n = 2 → a8 1 = ej_z db) (Br : 0 ≤ r ∧ r ≤ 40)
    (hs : ej_sh a10 0 lo hi) (hl : -100 ≤ lo) (hK : ej_cr n L ra da rb db lo hi r = K)
    (h0 : K < r → post 0 (ej_z L, cp, ej_z n, le, pk, a1, a2, a3, a4, a5, a6, a7, a8, a9, a10, a11)) (h1 : r ≤ K → r + L ≤ K → post 1 (ej_z L, cp, ej_z n, le, pk, a1, a2, a3, a4, a5, a6, a7, a8, a9, a10, a11)) (h2 : r ≤ K → K < r + L → ∀ b, ej_up a10 b (K - L) r → post 1 (ej_z L, cp, ej_z n, le, pk, a1, a2, a3, a4, a5, a6, a7, a8, a9, b, a11)) :
    wpX_shutBefore post (ej_z L, cp, ej_z n, le, pk, a1, a2, a3, a4, a5, a6, a7, a8, a9, a10, a11) (ej_z r) := by
  unfold ej_cr at hK
  have hc0 := ej_cwB n ra da rb db r da
  have hc1 := ej_cwB n ra da rb db r db
  generalize e0 : ej_cw n ra da rb db r da = c0 at hK hc0
  generalize e1 : ej_cw n ra da rb db r db = c1 at hK hc1
  have b0 := ej_bfB (L := L) (lo := lo) (hi := hi) (d := da) (c := c0) hl hL Ca
  have b1 := ej_bfB (L := L) (lo := lo) (hi := hi) (d := db) (c := c1) hl hL Cb
  have kK : -1 ≤ K ∧ K ≤ 41 := by
    rw [← hK]; split <;> omega
  have k2 : n = 2 → wX_shutBefore_5 post (ej_z r) (ej_z L) cp (ej_z n) le pk a1 a2 a3 a4 a5 a6 a7 a8 a9 a10 a11 1 (ej_z K) 2 := fun h => ej_le n 2 (fun _ => ej_le r K (fun g => ej_le (r + L) K (fun g2 => h1 g g2) (fun g2 => by rw [ej_sub]; exact ej_sbW (by omega) (by omega) (fun b hb => h2 g g2 b hb)) (ej_add r L) rfl) (fun g => h0 g)) (fun z => absurd z (by omega))
  have k1 : wX_shutBefore_5 post (ej_z r) (ej_z L) cp (ej_z n) le pk a1 a2 a3 a4 a5 a6 a7 a8 a9 a10 a11 2 (ej_z (min 41 (ej_bf L lo hi da c0))) 1 := by
    refine ej_le n 1 (fun z => ?_) (fun z => ⟨ej_i1, nm_r (h81 (by omega)) ?_⟩)
    · rw [if_neg (by omega)] at hK
      rw [hK]
      exact ej_le r K (fun g => ej_le (r + L) K (fun g2 => h1 g g2) (fun g2 => by rw [ej_sub]; exact ej_sbW (by omega) (by omega) (fun b hb => h2 g g2 b hb)) (ej_add r L) rfl) (fun g => h0 g)
    · have h2n : n = 2 := by omega
      rw [if_pos h2n] at hK
      refine ej_cwW r db hn (by omega) (by omega) Ba Bb Ca Cb h70 h71 h80 h81 ?_
      rw [e1]
      refine ej_bfW db c1 hs hl hL Cb hc1 ?_
      refine ej_le (min 41 (ej_bf L lo hi da c0)) (ej_bf L lo hi db c1) (fun g => nm_r ej_11 ?_) (fun g => nm_r ej_11 ?_)
      · rw [show min 41 (ej_bf L lo hi da c0) = K by omega]
        exact k2 h2n
      · rw [show ej_bf L lo hi db c1 = K by omega]
        exact k2 h2n
  refine Exists.intro 3 (ej_le n 0 (fun z => absurd z (by omega)) (fun z => ⟨ej_i0, nm_r h80 ?_⟩))
  refine ej_cwW r da hn (by omega) (by omega) Ba Bb Ca Cb h70 h71 h80 h81 ?_
  rw [e0]
  refine ej_bfW da c0 hs hl hL Ca hc0 ?_
  refine ej_le 41 (ej_bf L lo hi da c0) (fun g => nm_r ej_01 ?_) (fun g => nm_r ej_01 ?_)
  · rw [show min 41 (ej_bf L lo hi da c0) = 41 by omega] at k1
    exact k1
  · rw [show min 41 (ej_bf L lo hi da c0) = ej_bf L lo hi da c0 by omega] at k1
    exact k1
/-- one turn of dispatch, from t0 on -/
theorem ej_d51 {post : Int32 → St2 → Prop} {J : Int32 → Int32 → (Nat → Int32) → (Nat → Int32) → (Nat → Int32) → (Nat → Int32) → (Nat → Int32) → (Nat → Int32) → (Nat → Int32) → (Nat → Int32) → (Nat → Int32) → (Nat → Int32) → (Nat → Int32) → Prop} {m lo hi : Int} (k t0 t v0 v1 : Int) (hn : n = 1 ∨ n = 2) (hL : 1 ≤ L ∧ L ≤ 6) (Ba : 0 ≤ ra ∧ ra ≤ 40) (Bb : 0 ≤ rb ∧ rb ≤ 40) (Ca : 0 ≤ da ∧ da ≤ 40) (Cb : 0 ≤ db ∧ db ≤ 40) (h70 : a7 0 = ej_z ra) (h71 : n = 2 → a7 1 = ej_z rb) (h80 : a8 0 = ej_z da) (h81 : n = 2 → a8 1 = ej_z db)
    (V0 : 0 ≤ v0 ∧ v0 ≤ 1) (V1 : 0 ≤ v1 ∧ v1 ≤ 1) (h90 : a9 0 = ej_z v0) (h91 : n = 2 → a9 1 = ej_z v1) (hs : ej_sh a10 m lo hi) (hh : hi ≤ 47) (T0 : 0 ≤ t0 ∧ m ≤ t0 ∧ t0 ≤ 47) (et : ej_oa lo hi t0 = t)
    (h0 : (((v0 ≠ 0 ∨ t < ra) ∧ (n = 1 ∨ v1 ≠ 0 ∨ t < rb)) ∨ (v0 = 0 ∧ ra ≤ t ∧ (n = 1 ∨ v1 ≠ 0 ∨ t < rb ∨ da ≤ db) ∧ da < t + L) ∨ (n = 2 ∧ v1 = 0 ∧ rb ≤ t ∧ (v0 ≠ 0 ∨ t < ra ∨ db < da) ∧ db < t + L)) → post 0 (ej_z L, cp, ej_z n, le, pk, a1, a2, a3, a4, a5, a6, a7, a8, a9, a10, a11))
    (hA : v0 = 0 ∧ ra ≤ t ∧ (n = 1 ∨ v1 ≠ 0 ∨ t < rb ∨ da ≤ db) ∧ t + L ≤ da → J (ej_z (t + L)) (ej_z (k + 1)) a1 a2 a3 a4 a5 a6 a7 a8 (upd a9 0 1) a10 a11)
    (hB : n = 2 ∧ v1 = 0 ∧ rb ≤ t ∧ (v0 ≠ 0 ∨ t < ra ∨ db < da) ∧ t + L ≤ db → J (ej_z (t + L)) (ej_z (k + 1)) a1 a2 a3 a4 a5 a6 a7 a8 (upd a9 1 1) a10 a11) :
    wX_dispatch_51 post J (ej_z k) (ej_z t0) (ej_z L) cp (ej_z n) le pk a1 a2 a3 a4 a5 a6 a7 a8 a9 a10 a11 := by
  have Bt : 0 ≤ t ∧ t ≤ 47 := by
    rw [← et]; unfold ej_oa; split <;> omega
  refine ej_oaW t0 hs hh T0.1 T0.2.1 T0.2.2 ?_
  rw [et]
  refine ej_mu t v0 v1 hn (by omega) V0 V1 Ba Bb Ca Cb h70 h71 h80 h81 h90 h91 (fun b hb => ?_)
  rcases hb with ⟨e, g1, g2⟩ | ⟨e, g1, g2, g3⟩ | ⟨e, g1, g2, g3, g4⟩
  · subst e
    exact ej_lt (-1) 0 (fun _ => h0 (Or.inl ⟨g1, g2⟩)) (fun z => absurd z (by omega))
  · subst e
    exact ej_lt 0 0 (fun z => absurd z (by omega)) (fun _ => ⟨ej_i0, ej_le (t + L) da (fun z => ⟨ej_i0, nm_e (nm_r (ej_add t L) (nm_r (ej_p1 k) (hA ⟨g1, g2, g3, z⟩)))⟩) (fun z => h0 (Or.inr (Or.inl ⟨g1, g2, g3, z⟩))) (ej_add t L) h80⟩)
  · subst e
    exact ej_lt 1 0 (fun z => absurd z (by omega)) (fun _ => ⟨ej_i1, ej_le (t + L) db (fun z => ⟨ej_i1, nm_e (nm_r (ej_add t L) (nm_r (ej_p1 k) (hB ⟨g1, g2, g3, g4, z⟩)))⟩) (fun z => h0 (Or.inr (Or.inr ⟨g1, g2, g3, g4, z⟩))) (ej_add t L) (h81 g1)⟩)
/-- what dispatch makes of two windows: the last end, or -1 -/
def ej_dp (L lo hi ra da rb db : Int) : Int :=
  if ra ≤ ej_oa lo hi (min ra rb) ∧ (ej_oa lo hi (min ra rb) < rb ∨ da ≤ db) then
    (if da < ej_oa lo hi (min ra rb) + L then -1 else if db < ej_oa lo hi (max rb (ej_oa lo hi (min ra rb) + L)) + L then -1 else ej_oa lo hi (max rb (ej_oa lo hi (min ra rb) + L)) + L)
  else
    (if db < ej_oa lo hi (min ra rb) + L then -1 else if da < ej_oa lo hi (max ra (ej_oa lo hi (min ra rb) + L)) + L then -1 else ej_oa lo hi (max ra (ej_oa lo hi (min ra rb) + L)) + L)
/-- the second turn, the second job placed already -/
theorem ej_dB {post : Int32 → St2 → Prop} {m lo hi : Int} (t u : Int) (hn : n = 2) (hL : 1 ≤ L ∧ L ≤ 6) (Ba : 0 ≤ ra ∧ ra ≤ 40) (Bb : 0 ≤ rb ∧ rb ≤ 40) (Ca : 0 ≤ da ∧ da ≤ 40) (Cb : 0 ≤ db ∧ db ≤ 40) (h70 : a7 0 = ej_z ra) (h71 : n = 2 → a7 1 = ej_z rb) (h80 : a8 0 = ej_z da) (h81 : n = 2 → a8 1 = ej_z db) (h90 : a9 0 = ej_z 0) (h91 : a9 1 = ej_z 1) (hs : ej_sh a10 m lo hi) (hh : hi ≤ 40) (hm : m ≤ ra) (Bt : 0 ≤ t ∧ t ≤ 40) (et : ej_oa lo hi (max ra t) = u)
    (h0 : da < u + L → ∀ b, post 0 (ej_z L, cp, ej_z n, le, pk, a1, a2, a3, a4, a5, a6, a7, a8, b, a10, a11)) (h1 : u + L ≤ da → ∀ b, post 1 (ej_z L, cp, ej_z n, ej_z (u + L), pk, a1, a2, a3, a4, a5, a6, a7, a8, b, a10, a11)) : wX_dispatch_27 post (ej_z L) cp (ej_z n) le pk 2 (ej_z t) (ej_z 1) a1 a2 a3 a4 a5 a6 a7 a8 a9 a10 a11 := by
  have Bu : max ra t ≤ u := by
    rw [← et]; unfold ej_oa; split <;> omega
  have go : ∀ t0, t0 = max ra t → wX_dispatch_51 post (wX_dispatch_27 post (ej_z L) cp (ej_z n) le pk 1) (ej_z 1) (ej_z t0) (ej_z L) cp (ej_z n) le pk a1 a2 a3 a4 a5 a6 a7 a8 a9 a10 a11 := fun t0 e0 => by
    refine ej_d51 (m := m) (lo := lo) (hi := hi) 1 t0 u 0 1 (Or.inr hn) hL Ba Bb Ca Cb h70 h71 h80 h81 (by omega) (by omega) h90 (fun _ => h91) hs (by omega) (by omega) (by rw [e0]; exact et) (fun z => h0 (by omega) _) (fun z => ?_) (fun z => absurd z.2.1 (by omega))
    exact ej_le n 2 (fun _ => h1 z.2.2.2 _) (fun z => absurd z (by omega))
  refine ej_le n 1 (fun z => absurd z (by omega)) (fun _ => ?_)
  refine ej_lwr 0 1 (Or.inr hn) (by omega) (by omega) Ba Bb h70 h71 h90 (fun _ => h91) (fun b hb => ?_)
  have eb : b = ra := by omega
  subst eb
  exact ej_le b t (fun z => go t (by omega)) (fun z => go b (by omega))
theorem ej_dA {post : Int32 → St2 → Prop} {m lo hi : Int} (t u : Int) (hn : n = 2) (hL : 1 ≤ L ∧ L ≤ 6) (Ba : 0 ≤ ra ∧ ra ≤ 40) (Bb : 0 ≤ rb ∧ rb ≤ 40) (Ca : 0 ≤ da ∧ da ≤ 40) (Cb : 0 ≤ db ∧ db ≤ 40) (h70 : a7 0 = ej_z ra) (h71 : n = 2 → a7 1 = ej_z rb) (h80 : a8 0 = ej_z da) (h81 : n = 2 → a8 1 = ej_z db) (h90 : a9 0 = ej_z 1) (h91 : a9 1 = ej_z 0) (hs : ej_sh a10 m lo hi) (hh : hi ≤ 40) (hm : m ≤ rb) (Bt : 0 ≤ t ∧ t ≤ 40) (et : ej_oa lo hi (max rb t) = u)
    (h0 : db < u + L → ∀ b, post 0 (ej_z L, cp, ej_z n, le, pk, a1, a2, a3, a4, a5, a6, a7, a8, b, a10, a11)) (h1 : u + L ≤ db → ∀ b, post 1 (ej_z L, cp, ej_z n, ej_z (u + L), pk, a1, a2, a3, a4, a5, a6, a7, a8, b, a10, a11)) : wX_dispatch_27 post (ej_z L) cp (ej_z n) le pk 2 (ej_z t) (ej_z 1) a1 a2 a3 a4 a5 a6 a7 a8 a9 a10 a11 := by
  have Bu : max rb t ≤ u := by
    rw [← et]; unfold ej_oa; split <;> omega
  have go : ∀ t0, t0 = max rb t → wX_dispatch_51 post (wX_dispatch_27 post (ej_z L) cp (ej_z n) le pk 1) (ej_z 1) (ej_z t0) (ej_z L) cp (ej_z n) le pk a1 a2 a3 a4 a5 a6 a7 a8 a9 a10 a11 := fun t0 e0 => by
    refine ej_d51 (m := m) (lo := lo) (hi := hi) 1 t0 u 1 0 (Or.inr hn) hL Ba Bb Ca Cb h70 h71 h80 h81 (by omega) (by omega) h90 (fun _ => h91) hs (by omega) (by omega) (by rw [e0]; exact et) (fun z => h0 (by omega) _) (fun z => absurd z.1 (by omega)) (fun z => ?_)
    exact ej_le n 2 (fun _ => h1 z.2.2.2.2 _) (fun z => absurd z (by omega))
  refine ej_le n 1 (fun z => absurd z (by omega)) (fun _ => ?_)
  refine ej_lwr 1 0 (Or.inr hn) (by omega) (by omega) Ba Bb h70 h71 h90 (fun _ => h91) (fun b hb => ?_)
  have eb : b = rb := by omega
  subst eb
  exact ej_le b t (fun z => go t (by omega)) (fun z => go b (by omega))
/-- the loop that clears placed -/
theorem ej_d0 {post : Int32 → St2 → Prop} (hn : n = 1 ∨ n = 2) (hp : ∀ b : Nat → Int32, b 0 = ej_z 0 → (n = 2 → b 1 = ej_z 0) → ∃ k, wX_dispatch_27 post (ej_z L) cp (ej_z n) le pk k 0 0 a1 a2 a3 a4 a5 a6 a7 a8 b a10 a11) : wpX_dispatch post (ej_z L, cp, ej_z n, le, pk, a1, a2, a3, a4, a5, a6, a7, a8, a9, a10, a11) := by
  have k2 : n = 2 → ∀ b : Nat → Int32, b 0 = ej_z 0 → (n = 2 → b 1 = ej_z 0) → wX_dispatch_2 post (ej_z L) cp (ej_z n) le pk 1 2 a1 a2 a3 a4 a5 a6 a7 a8 b a10 a11 := fun h2 b hb hb1 => ej_le n 2 (fun _ => hp b hb hb1) (fun z => absurd z (by omega))
  have k1 : ∀ b : Nat → Int32, b 0 = ej_z 0 → wX_dispatch_2 post (ej_z L) cp (ej_z n) le pk 2 1 a1 a2 a3 a4 a5 a6 a7 a8 b a10 a11 := fun b hb => ej_le n 1 (fun z => hp b hb (fun z => absurd z (by omega))) (fun z => ⟨ej_i1, nm_e (nm_r ej_11 (k2 (by omega) _ (ej_un (k := 1) (by decide) hb) (fun _ => pk_us (k := 1))))⟩)
  exact Exists.intro 3 (ej_le n 0 (fun z => absurd z (by omega)) (fun z => ⟨ej_i0, nm_e (nm_r ej_01 (k1 _ (pk_us (k := 0))))⟩))
theorem ej_dp2 {post : Int32 → St2 → Prop} {m lo hi : Int} (hn : n = 2) (hL : 1 ≤ L ∧ L ≤ 6) (Ba : 0 ≤ ra ∧ ra ≤ 40) (Bb : 0 ≤ rb ∧ rb ≤ 40) (Ca : 0 ≤ da ∧ da ≤ 40) (Cb : 0 ≤ db ∧ db ≤ 40) (h70 : a7 0 = ej_z ra) (h71 : n = 2 → a7 1 = ej_z rb) (h80 : a8 0 = ej_z da) (h81 : n = 2 → a8 1 = ej_z db) (hs : ej_sh a10 m lo hi) (hh : hi ≤ 40) (hm : m ≤ ra ∧ m ≤ rb)
    (h0 : ej_dp L lo hi ra da rb db = -1 → ∀ b, post 0 (ej_z L, cp, ej_z n, le, pk, a1, a2, a3, a4, a5, a6, a7, a8, b, a10, a11)) (h1 : ej_dp L lo hi ra da rb db ≠ -1 → ∀ b, post 1 (ej_z L, cp, ej_z n, ej_z (ej_dp L lo hi ra da rb db), pk, a1, a2, a3, a4, a5, a6, a7, a8, b, a10, a11)) : wpX_dispatch post (ej_z L, cp, ej_z n, le, pk, a1, a2, a3, a4, a5, a6, a7, a8, a9, a10, a11) := by
  refine ej_d0 (Or.inr hn) (fun b hb0 hb1 => Exists.intro 3 ?_)
  generalize et : ej_oa lo hi (min ra rb) = t
  have Bt : min ra rb ≤ t := by
    rw [← et]; unfold ej_oa; split <;> omega
  have go : wX_dispatch_51 post (wX_dispatch_27 post (ej_z L) cp (ej_z n) le pk 2) (ej_z 0) (ej_z (min ra rb)) (ej_z L) cp (ej_z n) le pk a1 a2 a3 a4 a5 a6 a7 a8 b a10 a11 := by
    refine ej_d51 (m := m) (lo := lo) (hi := hi) 0 (min ra rb) t 0 0 (Or.inr hn) hL Ba Bb Ca Cb h70 h71 h80 h81 (by omega) (by omega) hb0 hb1 hs (by omega) (by omega) et (fun z => h0 ?_ _) (fun z => ?_) (fun z => ?_)
    · unfold ej_dp
      rw [et]
      rcases z with z | z | z
      · exact absurd z (by omega)
      · rw [if_pos (by omega), if_pos (by omega)]
      · rw [if_neg (by omega), if_pos (by omega)]
    · have e : ej_dp L lo hi ra da rb db = if db < ej_oa lo hi (max rb (t + L)) + L then -1 else ej_oa lo hi (max rb (t + L)) + L := by
        unfold ej_dp
        rw [et, if_pos (by omega), if_neg (by omega)]
      refine ej_dA (m := m) (lo := lo) (hi := hi) (t + L) _ hn hL Ba Bb Ca Cb h70 h71 h80 h81 (pk_us (k := 0)) (ej_un (k := 0) (by decide) (hb1 hn)) hs hh hm.2 (by omega) rfl (fun g b => ?_) (fun g b => ?_)
      · rw [if_pos g] at e
        exact h0 e b
      · rw [if_neg (by omega)] at e
        rw [← e]
        exact h1 (by rw [e]; have := ej_oaG lo hi (max rb (t + L)); omega) b
    · have e : ej_dp L lo hi ra da rb db = if da < ej_oa lo hi (max ra (t + L)) + L then -1 else ej_oa lo hi (max ra (t + L)) + L := by
        unfold ej_dp
        rw [et, if_neg (by omega), if_neg (by omega)]
      refine ej_dB (m := m) (lo := lo) (hi := hi) (t + L) _ hn hL Ba Bb Ca Cb h70 h71 h80 h81 (ej_un (k := 1) (by decide) hb0) (pk_us (k := 1)) hs hh hm.1 (by omega) rfl (fun g b => ?_) (fun g b => ?_)
      · rw [if_pos g] at e
        exact h0 e b
      · rw [if_neg (by omega)] at e
        rw [← e]
        exact h1 (by rw [e]; have := ej_oaG lo hi (max ra (t + L)); omega) b
  refine ej_le n 0 (fun z => absurd z (by omega)) (fun _ => ?_)
  refine ej_lwr 0 0 (Or.inr hn) (by omega) (by omega) Ba Bb h70 h71 hb0 hb1 (fun c hc => ?_)
  have ec : c = min ra rb := by omega
  subst ec
  refine ej_le (min ra rb) 0 (fun z => ?_) (fun z => go)
  rw [show min ra rb = 0 by omega] at go
  exact go
/-- one window -/
theorem ej_dp1 {post : Int32 → St2 → Prop} {m lo hi : Int} (hn : n = 1) (hL : 1 ≤ L ∧ L ≤ 6) (Ba : 0 ≤ ra ∧ ra ≤ 40) (Ca : 0 ≤ da ∧ da ≤ 40) (h70 : a7 0 = ej_z ra) (h80 : a8 0 = ej_z da) (hs : ej_sh a10 m lo hi) (hh : hi ≤ 40) (hm : m ≤ ra) (hi2 : hi ≤ ra) (hd : ra + L ≤ da)
    (h1 : ∀ b, post 1 (ej_z L, cp, ej_z n, ej_z (ra + L), pk, a1, a2, a3, a4, a5, a6, a7, a8, b, a10, a11)) : wpX_dispatch post (ej_z L, cp, ej_z n, le, pk, a1, a2, a3, a4, a5, a6, a7, a8, a9, a10, a11) := by
  refine ej_d0 (Or.inl hn) (fun b hb0 hb1 => Exists.intro 3 ?_)
  have et : ej_oa lo hi ra = ra := by unfold ej_oa; rw [if_neg (by omega)]
  have h71 : n = 2 → a7 1 = ej_z 0 := fun z => absurd z (by omega)
  have h81 : n = 2 → a8 1 = ej_z 0 := fun z => absurd z (by omega)
  have go : wX_dispatch_51 post (wX_dispatch_27 post (ej_z L) cp (ej_z n) le pk 2) (ej_z 0) (ej_z ra) (ej_z L) cp (ej_z n) le pk a1 a2 a3 a4 a5 a6 a7 a8 b a10 a11 := by
    refine ej_d51 (m := m) (lo := lo) (hi := hi) (rb := 0) (db := 0) 0 ra ra 0 0 (Or.inl hn) hL Ba (by omega) Ca (by omega) h70 h71 h80 h81 (by omega) (by omega) hb0 hb1 hs (by omega) (by omega) et (fun z => absurd z (by omega)) (fun z => ?_) (fun z => absurd z.1 (by omega))
    exact ej_le n 1 (fun _ => h1 _) (fun z => absurd z (by omega))
  refine ej_le n 0 (fun z => absurd z (by omega)) (fun _ => ?_)
  refine ej_lwr (rb := 0) 0 0 (Or.inl hn) (by omega) (by omega) Ba (by omega) h70 h71 hb0 hb1 (fun c hc => ?_)
  have ec : c = ra := by omega
  subst ec
  refine ej_le c 0 (fun z => ?_) (fun z => go)
  rw [show c = 0 by omega] at go
  exact go
end
end
section
/-- two windows that both fit, one job behind the other -/
def ej_can (L ra da rb db : Int) : Prop := (ra + L ≤ da ∧ rb + L ≤ db ∧ (ra + 2 * L ≤ db ∨ rb + 2 * L ≤ da))
/-- the least end -/
def ej_end (L ra da rb db E : Int) : Prop := ((ra + 2 * L ≤ db ∧ E = max rb (ra + L) + L ∧ (rb + 2 * L ≤ da → E ≤ max ra (rb + L) + L)) ∨ (rb + 2 * L ≤ da ∧ E = max ra (rb + L) + L ∧ (ra + 2 * L ≤ db → E ≤ max rb (ra + L) + L)))
theorem ej_obR (lo hi t : Int) : (t < 0 ∧ ej_ob lo hi t = -1) ∨ (0 ≤ t ∧ lo < t ∧ t < hi ∧ lo < 0 ∧ ej_ob lo hi t = -1) ∨ (0 ≤ t ∧ lo < t ∧ t < hi ∧ 0 ≤ lo ∧ ej_ob lo hi t = lo) ∨ (0 ≤ t ∧ (t ≤ lo ∨ hi ≤ t) ∧ ej_ob lo hi t = t) := by
  unfold ej_ob; split
  · omega
  · split
    · split <;> omega
    · omega
theorem ej_oaR (lo hi t : Int) : (lo < t ∧ t < hi ∧ ej_oa lo hi t = hi) ∨ ((t ≤ lo ∨ hi ≤ t) ∧ ej_oa lo hi t = t) := by
  unfold ej_oa; split <;> omega
theorem ej_bf0 (L lo hi d : Int) : ej_bf L lo hi d 0 = 41 := rfl
theorem ej_bf1 (L lo hi d : Int) : ej_bf L lo hi d 1 = ej_ob lo hi (d - L) := rfl
theorem ej_bf2 (L lo hi d : Int) : ej_bf L lo hi d 2 = ej_ob lo hi (ej_ob lo hi (d - L) - L) := rfl
theorem ej_dpR {L lo hi ra da rb db t u w D : Int} (ht : ej_oa lo hi (min ra rb) = t) (hu : ej_oa lo hi (max rb (t + L)) = u) (hw : ej_oa lo hi (max ra (t + L)) = w) (hD : ej_dp L lo hi ra da rb db = D) :
    (ra ≤ t ∧ (t < rb ∨ da ≤ db) ∧ ((da < t + L ∧ D = -1) ∨ (t + L ≤ da ∧ db < u + L ∧ D = -1) ∨ (t + L ≤ da ∧ u + L ≤ db ∧ D = u + L))) ∨
    ((t < ra ∨ (rb ≤ t ∧ db < da)) ∧ ((db < t + L ∧ D = -1) ∨ (t + L ≤ db ∧ da < w + L ∧ D = -1) ∨ (t + L ≤ db ∧ w + L ≤ da ∧ D = w + L))) := by
  unfold ej_dp at hD
  rw [ht, hu, hw] at hD
  split at hD
  · split at hD
    · omega
    · split at hD <;> omega
  · split at hD
    · omega
    · split at hD <;> omega
theorem ej_crE {L ra da rb db lo hi r c0 c1 K : Int} (h0 : ej_cw 2 ra da rb db r da = c0) (h1 : ej_cw 2 ra da rb db r db = c1) (hK : ej_cr 2 L ra da rb db lo hi r = K) : min (min 41 (ej_bf L lo hi da c0)) (ej_bf L lo hi db c1) = K := by
  unfold ej_cr at hK
  rw [if_pos rfl, h0, h1] at hK
  exact hK
/-- the first round, the second job released last -/
theorem ej_qA {L ra da rb db K : Int} (hL : 1 ≤ L ∧ L ≤ 6) (Ba : 0 ≤ ra ∧ ra ≤ 40) (Bb : 0 ≤ rb ∧ rb ≤ 40) (Ca : 0 ≤ da ∧ da ≤ 40) (Cb : 0 ≤ db ∧ db ≤ 40) (h : ra < rb) (hK : ej_cr 2 L ra da rb db 0 0 rb = K) : (K < rb → db < rb + L) ∧ (rb ≤ K → K = db - L) := by
  have o0 := ej_obR 0 0 (da - L)
  have o1 := ej_obR 0 0 (db - L)
  by_cases g : db ≤ da
  · have := ej_crE (c0 := 1) (c1 := 1) (by unfold ej_cw; rw [if_neg (by omega), if_pos (by omega)]; rfl) (by unfold ej_cw; rw [if_neg (by omega), if_pos (by omega)]; rfl) hK
    rw [ej_bf1, ej_bf1] at this
    omega
  · have := ej_crE (c0 := 0) (c1 := 1) (by unfold ej_cw; rw [if_neg (by omega), if_neg (by omega)]; rfl) (by unfold ej_cw; rw [if_neg (by omega), if_pos (by omega)]; rfl) hK
    rw [ej_bf0, ej_bf1] at this
    omega
theorem ej_qB {L ra da rb db K : Int} (hL : 1 ≤ L ∧ L ≤ 6) (Ba : 0 ≤ ra ∧ ra ≤ 40) (Bb : 0 ≤ rb ∧ rb ≤ 40) (Ca : 0 ≤ da ∧ da ≤ 40) (Cb : 0 ≤ db ∧ db ≤ 40) (h : rb < ra) (hK : ej_cr 2 L ra da rb db 0 0 ra = K) : (K < ra → da < ra + L) ∧ (ra ≤ K → K = da - L) := by
  have o0 := ej_obR 0 0 (da - L)
  have o1 := ej_obR 0 0 (db - L)
  by_cases g : da ≤ db
  · have := ej_crE (c0 := 1) (c1 := 1) (by unfold ej_cw; rw [if_pos (by omega), if_neg (by omega)]; rfl) (by unfold ej_cw; rw [if_pos (by omega), if_neg (by omega)]; rfl) hK
    rw [ej_bf1, ej_bf1] at this
    omega
  · have := ej_crE (c0 := 1) (c1 := 0) (by unfold ej_cw; rw [if_pos (by omega), if_neg (by omega)]; rfl) (by unfold ej_cw; rw [if_neg (by omega), if_neg (by omega)]; rfl) hK
    rw [ej_bf0, ej_bf1] at this
    omega
/-- all that the rounds and dispatch say, as one row of facts: both windows released at r or later -/
theorem ej_cr2 {L ra da rb db lo hi r K : Int} (hr : r ≤ ra ∧ r ≤ rb) (hK : ej_cr 2 L ra da rb db lo hi r = K) :
    (da < db ∧ min (min 41 (ej_ob lo hi (da - L))) (ej_ob lo hi (ej_ob lo hi (db - L) - L)) = K) ∨ (da = db ∧ min 41 (ej_ob lo hi (ej_ob lo hi (db - L) - L)) = K) ∨ (db < da ∧ min (min 41 (ej_ob lo hi (db - L))) (ej_ob lo hi (ej_ob lo hi (da - L) - L)) = K) := by
  rcases Int.lt_trichotomy da db with g | g | g
  · have := ej_crE (c0 := 1) (c1 := 2) (by unfold ej_cw; rw [if_pos (by omega), if_neg (by omega)]; rfl) (by unfold ej_cw; rw [if_pos (by omega), if_pos (by omega)]; rfl) hK
    rw [ej_bf1, ej_bf2] at this
    exact Or.inl ⟨g, this⟩
  · have := ej_crE (c0 := 2) (c1 := 2) (by unfold ej_cw; rw [if_pos (by omega), if_pos (by omega)]; rfl) (by unfold ej_cw; rw [if_pos (by omega), if_pos (by omega)]; rfl) hK
    rw [ej_bf2, ej_bf2, g] at this
    exact Or.inr (Or.inl ⟨g, by omega⟩)
  · have := ej_crE (c0 := 2) (c1 := 1) (by unfold ej_cw; rw [if_pos (by omega), if_pos (by omega)]; rfl) (by unfold ej_cw; rw [if_neg (by omega), if_pos (by omega)]; rfl) hK
    rw [ej_bf1, ej_bf2] at this
    exact Or.inr (Or.inr ⟨g, by omega⟩)
theorem ej_ob00 (t : Int) : ej_ob 0 0 t = max t (-1) := by
  have := ej_obR 0 0 t
  omega
theorem ej_oa00 (t : Int) : ej_oa 0 0 t = t := by
  unfold ej_oa; rw [if_neg (by omega)]
theorem ej_oaO {lo hi t : Int} (h : t ≤ lo ∨ hi ≤ t) : ej_oa lo hi t = t := by
  unfold ej_oa; rw [if_neg (by omega)]
theorem ej_oaS {lo hi t : Int} (h : lo < t ∧ t < hi) : ej_oa lo hi t = hi := by
  unfold ej_oa; rw [if_pos h]
/-- dispatch begins with the first job at t -/
theorem ej_dA1 {L lo hi ra da rb db t : Int} (ht : ej_oa lo hi (min ra rb) = t) (h1 : ra ≤ t) (h2 : t < rb ∨ da ≤ db) (hi1 : hi ≤ max rb (t + L)) : ej_dp L lo hi ra da rb db = if da < t + L then -1 else if db < max rb (t + L) + L then -1 else max rb (t + L) + L := by
  unfold ej_dp
  rw [ht, if_pos ⟨h1, h2⟩, ej_oaO (Or.inr hi1)]
/-- dispatch begins with the second job at t -/
theorem ej_dB1 {L lo hi ra da rb db t : Int} (ht : ej_oa lo hi (min ra rb) = t) (h1 : t < ra ∨ (rb ≤ t ∧ db < da)) (hi1 : hi ≤ max ra (t + L)) : ej_dp L lo hi ra da rb db = if db < t + L then -1 else if da < max ra (t + L) + L then -1 else max ra (t + L) + L := by
  unfold ej_dp
  rw [ht, if_neg (by omega), ej_oaO (Or.inr hi1)]
/-- two windows released together -/
theorem ej_pE {L ra da rb db r K E : Int} (hL : 1 ≤ L ∧ L ≤ 6) (Ba : 0 ≤ ra ∧ ra ≤ 40) (Bb : 0 ≤ rb ∧ rb ≤ 40) (Ca : 0 ≤ da ∧ da ≤ 40) (Cb : 0 ≤ db ∧ db ≤ 40) (h : ra = rb) (hr : r = ra) (hK : ej_cr 2 L ra da rb db 0 0 r = K) (hD : ej_dp L 0 0 ra da rb db = E) : (K < r → ¬ ej_can L ra da rb db) ∧ (r ≤ K → E = -1 → ¬ ej_can L ra da rb db) ∧ (r ≤ K → E ≠ -1 → ej_can L ra da rb db ∧ ej_end L ra da rb db E) := by
  have k := ej_cr2 (by omega) hK
  clear hK
  simp only [ej_ob00] at k
  subst h hr
  have et : ej_oa 0 0 (min r r) = r := by rw [ej_oa00]; omega
  unfold ej_can ej_end
  by_cases g : da ≤ db
  · rw [ej_dA1 et (Int.le_refl r) (Or.inr g) (by omega), show max r (r + L) = r + L by omega] at hD
    clear et
    rcases k with ⟨k1, k2⟩ | ⟨k1, k2⟩ | ⟨k1, k2⟩
    · split at hD
      · refine ⟨?_, ?_, ?_⟩ <;> omega
      · split at hD
        · refine ⟨?_, ?_, ?_⟩ <;> omega
        · refine ⟨?_, ?_, ?_⟩ <;> omega
    · split at hD
      · refine ⟨?_, ?_, ?_⟩ <;> omega
      · split at hD
        · refine ⟨?_, ?_, ?_⟩ <;> omega
        · refine ⟨?_, ?_, ?_⟩ <;> omega
    · omega
  · rw [ej_dB1 et (by omega) (by omega), show max r (r + L) = r + L by omega] at hD
    clear et
    rcases k with ⟨k1, k2⟩ | ⟨k1, k2⟩ | ⟨k1, k2⟩
    · omega
    · omega
    · split at hD
      · refine ⟨?_, ?_, ?_⟩ <;> omega
      · split at hD
        · refine ⟨?_, ?_, ?_⟩ <;> omega
        · refine ⟨?_, ?_, ?_⟩ <;> omega
/-- the second job released later, nothing shut -/
theorem ej_pA0 {L ra da rb db r K E : Int} (hL : 1 ≤ L ∧ L ≤ 6) (Ba : 0 ≤ ra ∧ ra ≤ 40) (Bb : 0 ≤ rb ∧ rb ≤ 40) (Ca : 0 ≤ da ∧ da ≤ 40) (Cb : 0 ≤ db ∧ db ≤ 40) (h : ra < rb) (hr : r = ra) (hb : rb + 2 * L ≤ db) (hK : ej_cr 2 L ra da rb db 0 0 r = K) (hD : ej_dp L 0 0 ra da rb db = E) : (K < r → ¬ ej_can L ra da rb db) ∧ (r ≤ K → E = -1 → ¬ ej_can L ra da rb db) ∧ (r ≤ K → E ≠ -1 → ej_can L ra da rb db ∧ ej_end L ra da rb db E) := by
  have k := ej_cr2 (by omega) hK
  clear hK
  simp only [ej_ob00] at k
  have hr' := hr.symm
  subst hr'
  have et : ej_oa 0 0 (min ra rb) = ra := by rw [ej_oa00]; omega
  unfold ej_can ej_end
  rw [ej_dA1 et (Int.le_refl ra) (Or.inl h) (by omega)] at hD
  clear et
  rcases k with ⟨k1, k2⟩ | ⟨k1, k2⟩ | ⟨k1, k2⟩
  · split at hD
    · refine ⟨?_, ?_, ?_⟩ <;> omega
    · split at hD
      · refine ⟨?_, ?_, ?_⟩ <;> omega
      · refine ⟨?_, ?_, ?_⟩ <;> omega
  · split at hD
    · refine ⟨?_, ?_, ?_⟩ <;> omega
    · split at hD
      · refine ⟨?_, ?_, ?_⟩ <;> omega
      · refine ⟨?_, ?_, ?_⟩ <;> omega
  · split at hD
    · refine ⟨?_, ?_, ?_⟩ <;> omega
    · split at hD
      · refine ⟨?_, ?_, ?_⟩ <;> omega
      · refine ⟨?_, ?_, ?_⟩ <;> omega
/-- the second job released later, its last start shuts the starts before it -/
theorem ej_pA1 {L ra da rb db lo hi r K E : Int} (hL : 1 ≤ L ∧ L ≤ 6) (Ba : 0 ≤ ra ∧ ra ≤ 40) (Bb : 0 ≤ rb ∧ rb ≤ 40) (Ca : 0 ≤ da ∧ da ≤ 40) (Cb : 0 ≤ db ∧ db ≤ 40) (h : ra < rb) (hr : r = ra) (hb : rb + L ≤ db) (hs : db < rb + 2 * L) (hlo : lo = db - L - L) (hhi : hi = rb) (hK : ej_cr 2 L ra da rb db lo hi r = K) (hD : ej_dp L lo hi ra da rb db = E) : (K < r → ¬ ej_can L ra da rb db) ∧ (r ≤ K → E = -1 → ¬ ej_can L ra da rb db) ∧ (r ≤ K → E ≠ -1 → ej_can L ra da rb db ∧ ej_end L ra da rb db E) := by
  have k := ej_cr2 (by omega) hK
  clear hK
  have hr' := hr.symm
  subst hr'
  have y1 : ej_ob lo hi (db - L) = db - L := ej_obO (by omega) (by omega)
  have y2 : ej_ob lo hi (db - L - L) = max (db - L - L) (-1) := by
    have := ej_obR lo hi (db - L - L)
    omega
  have x1 := ej_obR lo hi (da - L)
  have z1 : db < da → ej_ob lo hi (da - L) = da - L := fun _ => ej_obO (by omega) (by omega)
  have x2 := ej_obR lo hi (da - L - L)
  unfold ej_can ej_end
  by_cases g : lo < ra
  · have et : ej_oa lo hi (min ra rb) = rb := by
      rw [show min ra rb = ra by omega, ej_oaS ⟨g, by omega⟩, hhi]
    rcases k with ⟨k1, k2⟩ | ⟨k1, k2⟩ | ⟨k1, k2⟩
    · rw [ej_dA1 et (by omega) (by omega) (by omega), show max rb (rb + L) = rb + L by omega] at hD
      clear et
      rw [y1, y2] at k2
      clear x2 z1 y1 y2
      generalize ej_ob lo hi (da - L) = x at k2 x1
      rcases x1 with x1 | x1 | x1 | x1
      · split at hD
        · refine ⟨?_, ?_, ?_⟩ <;> omega
        · split at hD
          · refine ⟨?_, ?_, ?_⟩ <;> omega
          · refine ⟨?_, ?_, ?_⟩ <;> omega
      · split at hD
        · refine ⟨?_, ?_, ?_⟩ <;> omega
        · split at hD
          · refine ⟨?_, ?_, ?_⟩ <;> omega
          · refine ⟨?_, ?_, ?_⟩ <;> omega
      · split at hD
        · refine ⟨?_, ?_, ?_⟩ <;> omega
        · split at hD
          · refine ⟨?_, ?_, ?_⟩ <;> omega
          · refine ⟨?_, ?_, ?_⟩ <;> omega
      · split at hD
        · refine ⟨?_, ?_, ?_⟩ <;> omega
        · split at hD
          · refine ⟨?_, ?_, ?_⟩ <;> omega
          · refine ⟨?_, ?_, ?_⟩ <;> omega
    · rw [ej_dA1 et (by omega) (by omega) (by omega), show max rb (rb + L) = rb + L by omega] at hD
      clear et
      rw [y1, y2] at k2
      clear x1 x2 z1 y1 y2
      split at hD
      · refine ⟨?_, ?_, ?_⟩ <;> omega
      · split at hD
        · refine ⟨?_, ?_, ?_⟩ <;> omega
        · refine ⟨?_, ?_, ?_⟩ <;> omega
    · rw [ej_dB1 et (by omega) (by omega), show max ra (rb + L) = rb + L by omega] at hD
      clear et
      rw [y1, z1 k1] at k2
      clear x1 z1 y1 y2
      generalize ej_ob lo hi (da - L - L) = x at k2 x2
      rcases x2 with x2 | x2 | x2 | x2
      · split at hD
        · refine ⟨?_, ?_, ?_⟩ <;> omega
        · split at hD
          · refine ⟨?_, ?_, ?_⟩ <;> omega
          · refine ⟨?_, ?_, ?_⟩ <;> omega
      · split at hD
        · refine ⟨?_, ?_, ?_⟩ <;> omega
        · split at hD
          · refine ⟨?_, ?_, ?_⟩ <;> omega
          · refine ⟨?_, ?_, ?_⟩ <;> omega
      · split at hD
        · refine ⟨?_, ?_, ?_⟩ <;> omega
        · split at hD
          · refine ⟨?_, ?_, ?_⟩ <;> omega
          · refine ⟨?_, ?_, ?_⟩ <;> omega
      · split at hD
        · refine ⟨?_, ?_, ?_⟩ <;> omega
        · split at hD
          · refine ⟨?_, ?_, ?_⟩ <;> omega
          · refine ⟨?_, ?_, ?_⟩ <;> omega
  · have et : ej_oa lo hi (min ra rb) = ra := by
      rw [show min ra rb = ra by omega, ej_oaO (Or.inl (by omega))]
    rw [ej_dA1 et (Int.le_refl ra) (Or.inl h) (by omega)] at hD
    clear et
    rcases k with ⟨k1, k2⟩ | ⟨k1, k2⟩ | ⟨k1, k2⟩
    · rw [y1, y2] at k2
      clear x2 z1 y1 y2
      generalize ej_ob lo hi (da - L) = x at k2 x1
      rcases x1 with x1 | x1 | x1 | x1
      · split at hD
        · refine ⟨?_, ?_, ?_⟩ <;> omega
        · split at hD
          · refine ⟨?_, ?_, ?_⟩ <;> omega
          · refine ⟨?_, ?_, ?_⟩ <;> omega
      · split at hD
        · refine ⟨?_, ?_, ?_⟩ <;> omega
        · split at hD
          · refine ⟨?_, ?_, ?_⟩ <;> omega
          · refine ⟨?_, ?_, ?_⟩ <;> omega
      · split at hD
        · refine ⟨?_, ?_, ?_⟩ <;> omega
        · split at hD
          · refine ⟨?_, ?_, ?_⟩ <;> omega
          · refine ⟨?_, ?_, ?_⟩ <;> omega
      · split at hD
        · refine ⟨?_, ?_, ?_⟩ <;> omega
        · split at hD
          · refine ⟨?_, ?_, ?_⟩ <;> omega
          · refine ⟨?_, ?_, ?_⟩ <;> omega
    · rw [y1, y2] at k2
      clear x1 x2 z1 y1 y2
      split at hD
      · refine ⟨?_, ?_, ?_⟩ <;> omega
      · split at hD
        · refine ⟨?_, ?_, ?_⟩ <;> omega
        · refine ⟨?_, ?_, ?_⟩ <;> omega
    · rw [y1, z1 k1] at k2
      clear x1 z1 y1 y2
      generalize ej_ob lo hi (da - L - L) = x at k2 x2
      rcases x2 with x2 | x2 | x2 | x2
      · split at hD
        · refine ⟨?_, ?_, ?_⟩ <;> omega
        · split at hD
          · refine ⟨?_, ?_, ?_⟩ <;> omega
          · refine ⟨?_, ?_, ?_⟩ <;> omega
      · split at hD
        · refine ⟨?_, ?_, ?_⟩ <;> omega
        · split at hD
          · refine ⟨?_, ?_, ?_⟩ <;> omega
          · refine ⟨?_, ?_, ?_⟩ <;> omega
      · split at hD
        · refine ⟨?_, ?_, ?_⟩ <;> omega
        · split at hD
          · refine ⟨?_, ?_, ?_⟩ <;> omega
          · refine ⟨?_, ?_, ?_⟩ <;> omega
      · split at hD
        · refine ⟨?_, ?_, ?_⟩ <;> omega
        · split at hD
          · refine ⟨?_, ?_, ?_⟩ <;> omega
          · refine ⟨?_, ?_, ?_⟩ <;> omega
theorem ej_pA {L ra da rb db lo hi r K E : Int} (hL : 1 ≤ L ∧ L ≤ 6) (Ba : 0 ≤ ra ∧ ra ≤ 40) (Bb : 0 ≤ rb ∧ rb ≤ 40) (Ca : 0 ≤ da ∧ da ≤ 40) (Cb : 0 ≤ db ∧ db ≤ 40) (h : ra < rb) (hr : r = ra) (hb : rb + L ≤ db) (hlh : (db < rb + 2 * L ∧ lo = db - L - L ∧ hi = rb) ∨ (rb + 2 * L ≤ db ∧ lo = 0 ∧ hi = 0)) (hK : ej_cr 2 L ra da rb db lo hi r = K) (hD : ej_dp L lo hi ra da rb db = E) : (K < r → ¬ ej_can L ra da rb db) ∧ (r ≤ K → E = -1 → ¬ ej_can L ra da rb db) ∧ (r ≤ K → E ≠ -1 → ej_can L ra da rb db ∧ ej_end L ra da rb db E) := by
  rcases hlh with ⟨g1, g2, g3⟩ | ⟨g1, g2, g3⟩
  · exact ej_pA1 hL Ba Bb Ca Cb h hr hb g1 g2 g3 hK hD
  · subst g2 g3
    exact ej_pA0 hL Ba Bb Ca Cb h hr g1 hK hD
/-- the first job released later, nothing shut -/
theorem ej_pB0 {L ra da rb db r K E : Int} (hL : 1 ≤ L ∧ L ≤ 6) (Ba : 0 ≤ ra ∧ ra ≤ 40) (Bb : 0 ≤ rb ∧ rb ≤ 40) (Ca : 0 ≤ da ∧ da ≤ 40) (Cb : 0 ≤ db ∧ db ≤ 40) (h : rb < ra) (hr : r = rb) (hb : ra + 2 * L ≤ da) (hK : ej_cr 2 L ra da rb db 0 0 r = K) (hD : ej_dp L 0 0 ra da rb db = E) : (K < r → ¬ ej_can L ra da rb db) ∧ (r ≤ K → E = -1 → ¬ ej_can L ra da rb db) ∧ (r ≤ K → E ≠ -1 → ej_can L ra da rb db ∧ ej_end L ra da rb db E) := by
  have k := ej_cr2 (by omega) hK
  clear hK
  simp only [ej_ob00] at k
  have hr' := hr.symm
  subst hr'
  have et : ej_oa 0 0 (min ra rb) = rb := by rw [ej_oa00]; omega
  unfold ej_can ej_end
  rw [ej_dB1 et (Or.inl h) (by omega)] at hD
  clear et
  rcases k with ⟨k1, k2⟩ | ⟨k1, k2⟩ | ⟨k1, k2⟩
  · split at hD
    · refine ⟨?_, ?_, ?_⟩ <;> omega
    · split at hD
      · refine ⟨?_, ?_, ?_⟩ <;> omega
      · refine ⟨?_, ?_, ?_⟩ <;> omega
  · split at hD
    · refine ⟨?_, ?_, ?_⟩ <;> omega
    · split at hD
      · refine ⟨?_, ?_, ?_⟩ <;> omega
      · refine ⟨?_, ?_, ?_⟩ <;> omega
  · split at hD
    · refine ⟨?_, ?_, ?_⟩ <;> omega
    · split at hD
      · refine ⟨?_, ?_, ?_⟩ <;> omega
      · refine ⟨?_, ?_, ?_⟩ <;> omega
/-- the first job released later, its last start shuts the starts before it -/
theorem ej_pB1 {L ra da rb db lo hi r K E : Int} (hL : 1 ≤ L ∧ L ≤ 6) (Ba : 0 ≤ ra ∧ ra ≤ 40) (Bb : 0 ≤ rb ∧ rb ≤ 40) (Ca : 0 ≤ da ∧ da ≤ 40) (Cb : 0 ≤ db ∧ db ≤ 40) (h : rb < ra) (hr : r = rb) (hb : ra + L ≤ da) (hs : da < ra + 2 * L) (hlo : lo = da - L - L) (hhi : hi = ra) (hK : ej_cr 2 L ra da rb db lo hi r = K) (hD : ej_dp L lo hi ra da rb db = E) : (K < r → ¬ ej_can L ra da rb db) ∧ (r ≤ K → E = -1 → ¬ ej_can L ra da rb db) ∧ (r ≤ K → E ≠ -1 → ej_can L ra da rb db ∧ ej_end L ra da rb db E) := by
  have k := ej_cr2 (by omega) hK
  clear hK
  have hr' := hr.symm
  subst hr'
  have y1 : ej_ob lo hi (da - L) = da - L := ej_obO (by omega) (by omega)
  have y2 : ej_ob lo hi (da - L - L) = max (da - L - L) (-1) := by
    have := ej_obR lo hi (da - L - L)
    omega
  have x1 := ej_obR lo hi (db - L)
  have z1 : da < db → ej_ob lo hi (db - L) = db - L := fun _ => ej_obO (by omega) (by omega)
  have x2 := ej_obR lo hi (db - L - L)
  unfold ej_can ej_end
  by_cases g : lo < rb
  · have et : ej_oa lo hi (min ra rb) = ra := by
      rw [show min ra rb = rb by omega, ej_oaS ⟨g, by omega⟩, hhi]
    rcases k with ⟨k1, k2⟩ | ⟨k1, k2⟩ | ⟨k1, k2⟩
    · rw [ej_dA1 et (by omega) (by omega) (by omega), show max rb (ra + L) = ra + L by omega] at hD
      clear et
      rw [y1, z1 k1] at k2
      clear x1 z1 y1 y2
      generalize ej_ob lo hi (db - L - L) = x at k2 x2
      rcases x2 with x2 | x2 | x2 | x2
      · split at hD
        · refine ⟨?_, ?_, ?_⟩ <;> omega
        · split at hD
          · refine ⟨?_, ?_, ?_⟩ <;> omega
          · refine ⟨?_, ?_, ?_⟩ <;> omega
      · split at hD
        · refine ⟨?_, ?_, ?_⟩ <;> omega
        · split at hD
          · refine ⟨?_, ?_, ?_⟩ <;> omega
          · refine ⟨?_, ?_, ?_⟩ <;> omega
      · split at hD
        · refine ⟨?_, ?_, ?_⟩ <;> omega
        · split at hD
          · refine ⟨?_, ?_, ?_⟩ <;> omega
          · refine ⟨?_, ?_, ?_⟩ <;> omega
      · split at hD
        · refine ⟨?_, ?_, ?_⟩ <;> omega
        · split at hD
          · refine ⟨?_, ?_, ?_⟩ <;> omega
          · refine ⟨?_, ?_, ?_⟩ <;> omega
    · rw [ej_dA1 et (by omega) (by omega) (by omega), show max rb (ra + L) = ra + L by omega] at hD
      clear et
      rw [← k1, y1, y2] at k2
      clear x1 x2 z1 y1 y2
      split at hD
      · refine ⟨?_, ?_, ?_⟩ <;> omega
      · split at hD
        · refine ⟨?_, ?_, ?_⟩ <;> omega
        · refine ⟨?_, ?_, ?_⟩ <;> omega
    · rw [ej_dB1 et (by omega) (by omega), show max ra (ra + L) = ra + L by omega] at hD
      clear et
      rw [y1, y2] at k2
      clear x2 z1 y1 y2
      generalize ej_ob lo hi (db - L) = x at k2 x1
      rcases x1 with x1 | x1 | x1 | x1
      · split at hD
        · refine ⟨?_, ?_, ?_⟩ <;> omega
        · split at hD
          · refine ⟨?_, ?_, ?_⟩ <;> omega
          · refine ⟨?_, ?_, ?_⟩ <;> omega
      · split at hD
        · refine ⟨?_, ?_, ?_⟩ <;> omega
        · split at hD
          · refine ⟨?_, ?_, ?_⟩ <;> omega
          · refine ⟨?_, ?_, ?_⟩ <;> omega
      · split at hD
        · refine ⟨?_, ?_, ?_⟩ <;> omega
        · split at hD
          · refine ⟨?_, ?_, ?_⟩ <;> omega
          · refine ⟨?_, ?_, ?_⟩ <;> omega
      · split at hD
        · refine ⟨?_, ?_, ?_⟩ <;> omega
        · split at hD
          · refine ⟨?_, ?_, ?_⟩ <;> omega
          · refine ⟨?_, ?_, ?_⟩ <;> omega
  · have et : ej_oa lo hi (min ra rb) = rb := by
      rw [show min ra rb = rb by omega, ej_oaO (Or.inl (by omega))]
    rw [ej_dB1 et (Or.inl h) (by omega)] at hD
    clear et
    rcases k with ⟨k1, k2⟩ | ⟨k1, k2⟩ | ⟨k1, k2⟩
    · rw [y1, z1 k1] at k2
      clear x1 z1 y1 y2
      generalize ej_ob lo hi (db - L - L) = x at k2 x2
      rcases x2 with x2 | x2 | x2 | x2
      · split at hD
        · refine ⟨?_, ?_, ?_⟩ <;> omega
        · split at hD
          · refine ⟨?_, ?_, ?_⟩ <;> omega
          · refine ⟨?_, ?_, ?_⟩ <;> omega
      · split at hD
        · refine ⟨?_, ?_, ?_⟩ <;> omega
        · split at hD
          · refine ⟨?_, ?_, ?_⟩ <;> omega
          · refine ⟨?_, ?_, ?_⟩ <;> omega
      · split at hD
        · refine ⟨?_, ?_, ?_⟩ <;> omega
        · split at hD
          · refine ⟨?_, ?_, ?_⟩ <;> omega
          · refine ⟨?_, ?_, ?_⟩ <;> omega
      · split at hD
        · refine ⟨?_, ?_, ?_⟩ <;> omega
        · split at hD
          · refine ⟨?_, ?_, ?_⟩ <;> omega
          · refine ⟨?_, ?_, ?_⟩ <;> omega
    · rw [← k1, y1, y2] at k2
      clear x1 x2 z1 y1 y2
      split at hD
      · refine ⟨?_, ?_, ?_⟩ <;> omega
      · split at hD
        · refine ⟨?_, ?_, ?_⟩ <;> omega
        · refine ⟨?_, ?_, ?_⟩ <;> omega
    · rw [y1, y2] at k2
      clear x2 z1 y1 y2
      generalize ej_ob lo hi (db - L) = x at k2 x1
      rcases x1 with x1 | x1 | x1 | x1
      · split at hD
        · refine ⟨?_, ?_, ?_⟩ <;> omega
        · split at hD
          · refine ⟨?_, ?_, ?_⟩ <;> omega
          · refine ⟨?_, ?_, ?_⟩ <;> omega
      · split at hD
        · refine ⟨?_, ?_, ?_⟩ <;> omega
        · split at hD
          · refine ⟨?_, ?_, ?_⟩ <;> omega
          · refine ⟨?_, ?_, ?_⟩ <;> omega
      · split at hD
        · refine ⟨?_, ?_, ?_⟩ <;> omega
        · split at hD
          · refine ⟨?_, ?_, ?_⟩ <;> omega
          · refine ⟨?_, ?_, ?_⟩ <;> omega
      · split at hD
        · refine ⟨?_, ?_, ?_⟩ <;> omega
        · split at hD
          · refine ⟨?_, ?_, ?_⟩ <;> omega
          · refine ⟨?_, ?_, ?_⟩ <;> omega
theorem ej_pB {L ra da rb db lo hi r K E : Int} (hL : 1 ≤ L ∧ L ≤ 6) (Ba : 0 ≤ ra ∧ ra ≤ 40) (Bb : 0 ≤ rb ∧ rb ≤ 40) (Ca : 0 ≤ da ∧ da ≤ 40) (Cb : 0 ≤ db ∧ db ≤ 40) (h : rb < ra) (hr : r = rb) (hb : ra + L ≤ da) (hlh : (da < ra + 2 * L ∧ lo = da - L - L ∧ hi = ra) ∨ (ra + 2 * L ≤ da ∧ lo = 0 ∧ hi = 0)) (hK : ej_cr 2 L ra da rb db lo hi r = K) (hD : ej_dp L lo hi ra da rb db = E) : (K < r → ¬ ej_can L ra da rb db) ∧ (r ≤ K → E = -1 → ¬ ej_can L ra da rb db) ∧ (r ≤ K → E ≠ -1 → ej_can L ra da rb db ∧ ej_end L ra da rb db E) := by
  rcases hlh with ⟨g1, g2, g3⟩ | ⟨g1, g2, g3⟩
  · exact ej_pB1 hL Ba Bb Ca Cb h hr hb g1 g2 g3 hK hD
  · subst g2 g3
    exact ej_pB0 hL Ba Bb Ca Cb h hr g1 hK hD
end
section
section
variable {L n ra da rb db : Int} {cp le pk : Int32} {a1 a2 a3 a4 a5 a6 a7 a8 a9 a10 a11 : Nat → Int32}
theorem ej_nb0 : narrow .boolean (.int 0) = .int 0 := by rfl
theorem ej_nb1 : narrow .boolean (.int 1) = .int 1 := by rfl
/-- a round of feasible that finds the release r -/
theorem ej_f9r {post : Int32 → St2 → Prop} {lo hi : Int} (k : Nat) (ab q r K : Int) (hn : n = 1 ∨ n = 2) (hL : 1 ≤ L ∧ L ≤ 6) (Ba : 0 ≤ ra ∧ ra ≤ 40) (Bb : 0 ≤ rb ∧ rb ≤ 40) (Ca : 0 ≤ da ∧ da ≤ 40) (Cb : 0 ≤ db ∧ db ≤ 40) (h70 : a7 0 = ej_z ra) (h71 : n = 2 → a7 1 = ej_z rb) (h80 : a8 0 = ej_z da) (h81 : n = 2 → a8 1 = ej_z db) (Bab : 0 ≤ ab ∧ ab ≤ 41) (Bq : 0 ≤ q ∧ q ≤ 7) (Br : 0 ≤ r ∧ r ≤ 40)
    (hr : (r = ra ∧ ra < ab ∧ (n = 1 ∨ ab ≤ rb ∨ rb ≤ ra)) ∨ (r = rb ∧ n = 2 ∧ rb < ab ∧ (ab ≤ ra ∨ ra < rb)))
    (hs : ej_sh a10 0 lo hi) (hl : -100 ≤ lo) (hK : ej_cr n L ra da rb db lo hi r = K)
    (h0 : K < r → post 0 (ej_z L, cp, ej_z n, le, pk, a1, a2, a3, a4, a5, a6, a7, a8, a9, a10, a11)) (h1 : r ≤ K → r + L ≤ K → wX_feasible_9 post k (ej_z r) (ej_z (q + 1)) (ej_z L) cp (ej_z n) le pk a1 a2 a3 a4 a5 a6 a7 a8 a9 a10 a11) (h2 : r ≤ K → K < r + L → ∀ b, ej_up a10 b (K - L) r → wX_feasible_9 post k (ej_z r) (ej_z (q + 1)) (ej_z L) cp (ej_z n) le pk a1 a2 a3 a4 a5 a6 a7 a8 a9 b a11) :
    wX_feasible_9 post (k + 1) (ej_z ab) (ej_z q) (ej_z L) cp (ej_z n) le pk a1 a2 a3 a4 a5 a6 a7 a8 a9 a10 a11 := by
  refine ej_le 8 q (fun z => absurd z (by omega)) (fun _ => ?_)
  refine ej_grb ab hn Bab Ba Bb h70 h71 (fun b hb => ?_)
  have eb : b = r := by omega
  subst eb
  refine ej_le 0 b (fun _ => ?_) (fun z => absurd z (by omega))
  refine ej_sbf b K hn hL Ba Bb Ca Cb h70 h71 h80 h81 Br hs hl hK (fun g => ?_) (fun g g2 => ?_) (fun g g2 c hc => ?_)
  · exact br_t rfl (h0 g)
  · exact br_f (by decide) (nm_r (ej_p1 q) (h1 g g2))
  · exact br_f (by decide) (nm_r (ej_p1 q) (h2 g g2 c hc))
/-- the last round: no release below ab -/
theorem ej_f9z {post : Int32 → St2 → Prop} {m lo hi : Int} (k : Nat) (ab q : Int) (hn : n = 2) (hL : 1 ≤ L ∧ L ≤ 6) (Ba : 0 ≤ ra ∧ ra ≤ 40) (Bb : 0 ≤ rb ∧ rb ≤ 40) (Ca : 0 ≤ da ∧ da ≤ 40) (Cb : 0 ≤ db ∧ db ≤ 40) (h70 : a7 0 = ej_z ra) (h71 : n = 2 → a7 1 = ej_z rb) (h80 : a8 0 = ej_z da) (h81 : n = 2 → a8 1 = ej_z db) (Bab : 0 ≤ ab ∧ ab ≤ ra ∧ ab ≤ rb) (Bq : 0 ≤ q ∧ q ≤ 7)
    (hs : ej_sh a10 m lo hi) (hh : hi ≤ 40) (hm : m ≤ ra ∧ m ≤ rb)
    (h0 : ej_dp L lo hi ra da rb db = -1 → ∀ b, post 0 (ej_z L, cp, ej_z n, le, pk, a1, a2, a3, a4, a5, a6, a7, a8, b, a10, a11)) (h1 : ej_dp L lo hi ra da rb db ≠ -1 → ∀ b, post 1 (ej_z L, cp, ej_z n, ej_z (ej_dp L lo hi ra da rb db), pk, a1, a2, a3, a4, a5, a6, a7, a8, b, a10, a11)) :
    wX_feasible_9 post (k + 1) (ej_z ab) (ej_z q) (ej_z L) cp (ej_z n) le pk a1 a2 a3 a4 a5 a6 a7 a8 a9 a10 a11 := by
  refine ej_le 8 q (fun z => absurd z (by omega)) (fun _ => ?_)
  refine ej_grb ab (Or.inr hn) (by omega) Ba Bb h70 h71 (fun b hb => ?_)
  have eb : b = -1 := by omega
  subst eb
  refine ej_le 0 (-1) (fun z => absurd z (by omega)) (fun _ => ?_)
  exact ej_dp2 hn hL Ba Bb Ca Cb h70 h71 h80 h81 hs hh hm (fun g b => ⟨ej_nb0, h0 g b⟩) (fun g b => ⟨ej_nb1, h1 g b⟩)
theorem ej_sh0 {b : Nat → Int32} (hb : ∀ j, j < 48 → b j = 0) (m : Int) : ej_sh b m 0 0 := fun j _ hj => ⟨fun _ => by omega, fun _ => hb j hj⟩
/-- shut below m: nothing changes from m on -/
theorem ej_shU {a b : Nat → Int32} {m l h lo hi : Int} (ha : ej_sh a 0 lo hi) (hu : ej_up a b l h) (hm : h ≤ m) : ej_sh b m lo hi := fun j hj hj2 => by
  rw [(hu j hj2).2 (by omega)]
  exact ha j (by omega) hj2
theorem ej_shM {a : Nat → Int32} {m lo hi : Int} (ha : ej_sh a 0 lo hi) (hm : 0 ≤ m) : ej_sh a m lo hi := fun j hj hj2 => ha j (by omega) hj2
/-- shut in a field where nothing was -/
theorem ej_shN {a b : Nat → Int32} {lo hi : Int} (ha : ∀ j, j < 48 → a j = 0) (hu : ej_up a b lo hi) : ej_sh b 0 lo hi := fun j _ hj => by
  by_cases g : lo < (j : Int) ∧ (j : Int) < hi
  · rw [(hu j hj).1 g]
    exact ⟨fun z => absurd z (by decide), fun z => absurd g z⟩
  · rw [(hu j hj).2 g, ha j hj]
    exact ⟨fun _ => g, fun _ => rfl⟩
/-- feasible over two windows -/
theorem ej_fe2 {post : Int32 → St2 → Prop} (hn : n = 2) (hL : 1 ≤ L ∧ L ≤ 6) (Ba : 0 ≤ ra ∧ ra ≤ 40) (Bb : 0 ≤ rb ∧ rb ≤ 40) (Ca : 0 ≤ da ∧ da ≤ 40) (Cb : 0 ≤ db ∧ db ≤ 40) (h70 : a7 0 = ej_z ra) (h71 : n = 2 → a7 1 = ej_z rb) (h80 : a8 0 = ej_z da) (h81 : n = 2 → a8 1 = ej_z db) (h4 : ∀ j, j < 4 → a4 j = 0)
    (hF : ¬ ej_can L ra da rb db → ∀ b c, post 0 (ej_z L, cp, ej_z n, le, pk, a1, a2, a3, a4, a5, a6, a7, a8, b, c, a11))
    (hT : ∀ E, ej_can L ra da rb db → ej_end L ra da rb db E → ∀ b c, post 1 (ej_z L, cp, ej_z n, ej_z E, pk, a1, a2, a3, a4, a5, a6, a7, a8, b, c, a11)) : wpX_feasible post (ej_z L, cp, ej_z n, le, pk, a1, a2, a3, a4, a5, a6, a7, a8, a9, a10, a11) := by
  refine ej_shb h4 (fun b hb => Exists.intro 3 ?_)
  have s0 := ej_sh0 hb 0
  subst hn
  rcases Int.lt_trichotomy ra rb with g | g | g
  · -- the second released later
    have q1 := ej_qA hL Ba Bb Ca Cb g rfl
    have sec : ∀ (lo hi : Int) (c : Nat → Int32), rb + L ≤ db → ((db < rb + 2 * L ∧ lo = db - L - L ∧ hi = rb) ∨ (rb + 2 * L ≤ db ∧ lo = 0 ∧ hi = 0)) → ej_sh c 0 lo hi → wX_feasible_9 post 2 (ej_z rb) (ej_z (0 + 1)) (ej_z L) cp (ej_z 2) le pk a1 a2 a3 a4 a5 a6 a7 a8 a9 c a11 := by
      intro lo hi c hb2 hlh hs
      have p := ej_pA hL Ba Bb Ca Cb g rfl hb2 hlh rfl rfl
      refine ej_f9r (lo := lo) (hi := hi) 1 rb (0 + 1) ra _ (Or.inr rfl) hL Ba Bb Ca Cb h70 h71 h80 h81 (by omega) (by omega) Ba (by omega) hs (by omega) rfl (fun k => hF (p.1 k) _ _) (fun k k2 => ?_) (fun k k2 e he => ?_)
      · exact ej_f9z 0 ra _ rfl hL Ba Bb Ca Cb h70 h71 h80 h81 (by omega) (by omega) (ej_shM hs Ba.1) (by omega) (by omega) (fun z b => hF (p.2.1 k z) _ _) (fun z b => hT _ (p.2.2 k z).1 (p.2.2 k z).2 _ _)
      · exact ej_f9z 0 ra _ rfl hL Ba Bb Ca Cb h70 h71 h80 h81 (by omega) (by omega) (ej_shU hs he (Int.le_refl ra)) (by omega) (by omega) (fun z b => hF (p.2.1 k z) _ _) (fun z b => hT _ (p.2.2 k z).1 (p.2.2 k z).2 _ _)
    refine ej_f9r (lo := 0) (hi := 0) 2 41 0 rb _ (Or.inr rfl) hL Ba Bb Ca Cb h70 h71 h80 h81 (by omega) (by omega) Bb (by omega) s0 (by omega) rfl (fun k => hF ?_ _ _) (fun k k2 => ?_) (fun k k2 e he => ?_)
    · have := q1.1 k
      unfold ej_can
      omega
    · have := q1.2 k
      exact sec 0 0 b (by omega) (by omega) s0
    · have e1 := q1.2 k
      rw [e1] at he
      exact sec _ _ e (by omega) (Or.inl ⟨by omega, rfl, rfl⟩) (ej_shN hb he)
  · have p := ej_pE hL Ba Bb Ca Cb g rfl rfl rfl
    refine ej_f9r (lo := 0) (hi := 0) 2 41 0 ra _ (Or.inr rfl) hL Ba Bb Ca Cb h70 h71 h80 h81 (by omega) (by omega) Ba (by omega) s0 (by omega) rfl (fun k => hF (p.1 k) _ _) (fun k k2 => ?_) (fun k k2 e he => ?_)
    · exact ej_f9z 1 ra _ rfl hL Ba Bb Ca Cb h70 h71 h80 h81 (by omega) (by omega) s0 (by omega) (by omega) (fun z b => hF (p.2.1 k z) _ _) (fun z b => hT _ (p.2.2 k z).1 (p.2.2 k z).2 _ _)
    · exact ej_f9z 1 ra _ rfl hL Ba Bb Ca Cb h70 h71 h80 h81 (by omega) (by omega) (ej_shU s0 he (Int.le_refl ra)) (by omega) (by omega) (fun z b => hF (p.2.1 k z) _ _) (fun z b => hT _ (p.2.2 k z).1 (p.2.2 k z).2 _ _)
  · have q1 := ej_qB hL Ba Bb Ca Cb g rfl
    have sec : ∀ (lo hi : Int) (c : Nat → Int32), ra + L ≤ da → ((da < ra + 2 * L ∧ lo = da - L - L ∧ hi = ra) ∨ (ra + 2 * L ≤ da ∧ lo = 0 ∧ hi = 0)) → ej_sh c 0 lo hi → wX_feasible_9 post 2 (ej_z ra) (ej_z (0 + 1)) (ej_z L) cp (ej_z 2) le pk a1 a2 a3 a4 a5 a6 a7 a8 a9 c a11 := by
      intro lo hi c hb2 hlh hs
      have p := ej_pB hL Ba Bb Ca Cb g rfl hb2 hlh rfl rfl
      refine ej_f9r (lo := lo) (hi := hi) 1 ra (0 + 1) rb _ (Or.inr rfl) hL Ba Bb Ca Cb h70 h71 h80 h81 (by omega) (by omega) Bb (by omega) hs (by omega) rfl (fun k => hF (p.1 k) _ _) (fun k k2 => ?_) (fun k k2 e he => ?_)
      · exact ej_f9z 0 rb _ rfl hL Ba Bb Ca Cb h70 h71 h80 h81 (by omega) (by omega) (ej_shM hs Bb.1) (by omega) (by omega) (fun z b => hF (p.2.1 k z) _ _) (fun z b => hT _ (p.2.2 k z).1 (p.2.2 k z).2 _ _)
      · exact ej_f9z 0 rb _ rfl hL Ba Bb Ca Cb h70 h71 h80 h81 (by omega) (by omega) (ej_shU hs he (Int.le_refl rb)) (by omega) (by omega) (fun z b => hF (p.2.1 k z) _ _) (fun z b => hT _ (p.2.2 k z).1 (p.2.2 k z).2 _ _)
    refine ej_f9r (lo := 0) (hi := 0) 2 41 0 ra _ (Or.inr rfl) hL Ba Bb Ca Cb h70 h71 h80 h81 (by omega) (by omega) Ba (by omega) s0 (by omega) rfl (fun k => hF ?_ _ _) (fun k k2 => ?_) (fun k k2 e he => ?_)
    · have := q1.1 k
      unfold ej_can
      omega
    · have := q1.2 k
      exact sec 0 0 b (by omega) (by omega) s0
    · have e1 := q1.2 k
      rw [e1] at he
      exact sec _ _ e (by omega) (Or.inl ⟨by omega, rfl, rfl⟩) (ej_shN hb he)
/-- feasible over one window -/
theorem ej_fe1 {post : Int32 → St2 → Prop} (hn : n = 1) (hL : 1 ≤ L ∧ L ≤ 6) (Ba : 0 ≤ ra ∧ ra ≤ 40) (Ca : 0 ≤ da ∧ da ≤ 40) (h70 : a7 0 = ej_z ra) (h80 : a8 0 = ej_z da) (h4 : ∀ j, j < 4 → a4 j = 0) (hd : ra + L ≤ da)
    (hT : ∀ b c, post 1 (ej_z L, cp, ej_z n, ej_z (ra + L), pk, a1, a2, a3, a4, a5, a6, a7, a8, b, c, a11)) : wpX_feasible post (ej_z L, cp, ej_z n, le, pk, a1, a2, a3, a4, a5, a6, a7, a8, a9, a10, a11) := by
  refine ej_shb h4 (fun b hb => Exists.intro 3 ?_)
  have s0 := ej_sh0 hb 0
  have h71 : n = 2 → a7 1 = ej_z 0 := fun z => absurd z (by omega)
  have h81 : n = 2 → a8 1 = ej_z 0 := fun z => absurd z (by omega)
  have eK : ej_cr n L ra da 0 0 0 0 ra = da - L := by
    have o1 := ej_obR 0 0 (da - L)
    have e : ej_cw n ra da 0 0 ra da = 1 := by
      unfold ej_cw; rw [if_pos (by omega), if_neg (by omega)]; rfl
    unfold ej_cr
    rw [if_neg (by omega), e, ej_bf1]
    omega
  have last : ∀ c, ej_sh c ra 0 0 → wX_feasible_9 post 2 (ej_z ra) (ej_z (0 + 1)) (ej_z L) cp (ej_z n) le pk a1 a2 a3 a4 a5 a6 a7 a8 a9 c a11 := fun c hc => by
    refine ej_le 8 (0 + 1) (fun z => absurd z (by omega)) (fun _ => ?_)
    refine ej_grb (rb := 0) ra (Or.inl hn) (by omega) Ba (by omega) h70 h71 (fun b hb => ?_)
    have eb : b = -1 := by omega
    subst eb
    refine ej_le 0 (-1) (fun z => absurd z (by omega)) (fun _ => ?_)
    exact ej_dp1 hn hL Ba Ca h70 h80 hc (by omega) (Int.le_refl ra) Ba.1 hd (fun b => ⟨ej_nb1, hT b c⟩)
  refine ej_f9r (lo := 0) (hi := 0) (rb := 0) (db := 0) 2 41 0 ra _ (Or.inl hn) hL Ba (by omega) Ca (by omega) h70 h71 h80 h81 (by omega) (by omega) Ba (by omega) s0 (by omega) eK (fun k => absurd k (by omega)) (fun k k2 => ?_) (fun k k2 e he => ?_)
  · exact last b (ej_shM s0 Ba.1)
  · exact last e (ej_shU s0 he (Int.le_refl ra))
end
end
section
section
variable {L : Int} {cp le pk nn x1 x2 : Int32} {a1 a2 a3 a4 a5 a6 a7 a8 a9 a10 a11 : Nat → Int32}
theorem ej_ask0 {post : St2 → Prop} {x y : Int32} (r d : Int) (hx : x = ej_z r) (hy : y = ej_z d) (Br : -128 ≤ r ∧ r ≤ 127) (Bd : -128 ≤ d ∧ d ≤ 127) (hp : ∀ b c : Nat → Int32, b 0 = ej_z r → c 0 = ej_z d → post (ej_z L, cp, ej_z 1, le, pk, a1, a2, a3, a4, a5, a6, b, c, a9, a10, a11)) : wpX_ask post (ej_z L, cp, 0, le, pk, a1, a2, a3, a4, a5, a6, a7, a8, a9, a10, a11) x y := by
  subst hx hy
  exact ej_le 8 0 (fun z => absurd z (by omega)) (fun _ => ⟨ej_i0, nm_e ⟨ej_i0, nm_e (nm_r ej_01 (hp _ _ (ej_us (k := 0) (ej_byte Br)) (ej_us (k := 0) (ej_byte Bd))))⟩⟩)
theorem ej_ask1 {post : St2 → Prop} {x y : Int32} (r d : Int) (hx : x = ej_z r) (hy : y = ej_z d) (Br : -128 ≤ r ∧ r ≤ 127) (Bd : -128 ≤ d ∧ d ≤ 127) (hp : ∀ b c : Nat → Int32, b 0 = a7 0 → b 1 = ej_z r → c 0 = a8 0 → c 1 = ej_z d → post (ej_z L, cp, ej_z 2, le, pk, a1, a2, a3, a4, a5, a6, b, c, a9, a10, a11)) : wpX_ask post (ej_z L, cp, ej_z 1, le, pk, a1, a2, a3, a4, a5, a6, a7, a8, a9, a10, a11) x y := by
  subst hx hy
  exact ej_le 8 1 (fun z => absurd z (by omega)) (fun _ => ⟨ej_i1, nm_e ⟨ej_i1, nm_e (nm_r ej_11 (hp _ _ (ej_un (k := 1) (by decide) rfl) (ej_us (k := 1) (ej_byte Br)) (ej_un (k := 1) (by decide) rfl) (ej_us (k := 1) (ej_byte Bd))))⟩⟩)
theorem ej_stop {post : St2 → Prop} {k : Nat} (hp : post (ej_z L, 2, nn, le, pk, a1, a2, a3, a4, a5, a6, a7, a8, a9, a10, a11)) : wX_askPinned_7 post x1 x2 (k + 1) 2 (ej_z L) 2 nn le pk a1 a2 a3 a4 a5 a6 a7 a8 a9 a10 a11 := ej_le 2 2 (fun _ => hp) (fun z => absurd z (by omega))
theorem ej_skip {post : St2 → Prop} {k : Nat} {i i' : Int32} (hi : vp_in i 8) (hc : ¬ cp ≤ i) (e : i + 1 = i') (h : a1 i.toNatClampNeg = 0 ∨ (¬ a1 i.toNatClampNeg = 0 ∧ i = x1)) (hw : wX_askPinned_7 post x1 x2 k i' (ej_z L) cp nn le pk a1 a2 a3 a4 a5 a6 a7 a8 a9 a10 a11) : wX_askPinned_7 post x1 x2 (k + 1) i (ej_z L) cp nn le pk a1 a2 a3 a4 a5 a6 a7 a8 a9 a10 a11 :=
  br_f hc ⟨hi, by
    rcases h with h | h
    · exact br_t h (nm_r e hw)
    · exact br_f h.1 (br_t h.2 (nm_r e hw))⟩
theorem ej_take0 {post : St2 → Prop} {k : Nat} {i i' : Int32} (r d : Int) (hi : vp_in i 8) (hc : ¬ cp ≤ i) (e : i + 1 = i') (hu : ¬ a1 i.toNatClampNeg = 0) (hx : ¬ i = x1) (hq : x2 ≤ i) (h2 : a2 i.toNatClampNeg = ej_z r) (h3 : a3 i.toNatClampNeg = ej_z d) (Br : -128 ≤ r ∧ r ≤ 127) (Bd : -128 ≤ d ∧ d ≤ 127)
    (hw : ∀ b c : Nat → Int32, b 0 = ej_z r → c 0 = ej_z d → wX_askPinned_7 post x1 x2 k i' (ej_z L) cp (ej_z 1) le pk a1 a2 a3 a4 a5 a6 b c a9 a10 a11) : wX_askPinned_7 post x1 x2 (k + 1) i (ej_z L) cp 0 le pk a1 a2 a3 a4 a5 a6 a7 a8 a9 a10 a11 := by
  refine br_f hc ⟨hi, br_f hu (br_f hx (br_t hq (br_t rfl ⟨hi, br_t rfl ⟨hi, ?_⟩⟩)))⟩
  exact ej_ask0 r d h2 h3 Br Bd (fun b c hb hcc => nm_r e (hw b c hb hcc))
theorem ej_take1 {post : St2 → Prop} {k : Nat} {i i' : Int32} (r d : Int) (hi : vp_in i 8) (hc : ¬ cp ≤ i) (e : i + 1 = i') (hu : ¬ a1 i.toNatClampNeg = 0) (hx : ¬ i = x1) (hq : x2 ≤ i) (h2 : a2 i.toNatClampNeg = ej_z r) (h3 : a3 i.toNatClampNeg = ej_z d) (Br : -128 ≤ r ∧ r ≤ 127) (Bd : -128 ≤ d ∧ d ≤ 127)
    (hw : ∀ b c : Nat → Int32, b 0 = a7 0 → b 1 = ej_z r → c 0 = a8 0 → c 1 = ej_z d → wX_askPinned_7 post x1 x2 k i' (ej_z L) cp (ej_z 2) le pk a1 a2 a3 a4 a5 a6 b c a9 a10 a11) : wX_askPinned_7 post x1 x2 (k + 1) i (ej_z L) cp (ej_z 1) le pk a1 a2 a3 a4 a5 a6 a7 a8 a9 a10 a11 := by
  refine br_f hc ⟨hi, br_f hu (br_f hx (br_t hq (br_t rfl ⟨hi, br_t rfl ⟨hi, ?_⟩⟩)))⟩
  exact ej_ask1 r d h2 h3 Br Bd (fun b c h1 h2 h3 h4 => nm_r e (hw b c h1 h2 h3 h4))
theorem ej_pin0 {post : St2 → Prop} {k : Nat} {i i' : Int32} (p : Int) (hi : vp_in i 8) (hc : ¬ cp ≤ i) (e : i + 1 = i') (hu : ¬ a1 i.toNatClampNeg = 0) (hx : ¬ i = x1) (hq : ¬ x2 ≤ i) (h2 : a11 i.toNatClampNeg = ej_z p) (Br : 0 ≤ p ∧ p ≤ 40) (hL : 1 ≤ L ∧ L ≤ 6)
    (hw : ∀ b c : Nat → Int32, b 0 = ej_z p → c 0 = ej_z (p + L) → wX_askPinned_7 post x1 x2 k i' (ej_z L) cp (ej_z 1) le pk a1 a2 a3 a4 a5 a6 b c a9 a10 a11) : wX_askPinned_7 post x1 x2 (k + 1) i (ej_z L) cp 0 le pk a1 a2 a3 a4 a5 a6 a7 a8 a9 a10 a11 := by
  refine br_f hc ⟨hi, br_f hu (br_f hx (br_f hq (br_f (by decide) ⟨hi, br_f (by decide) ⟨hi, ?_⟩⟩)))⟩
  exact ej_ask0 p (p + L) h2 (by rw [h2, ej_add]) (by omega) (by omega) (fun b c hb hcc => nm_r e (hw b c hb hcc))
/-- nothing is there -/
theorem ej_apN {post : St2 → Prop} (u0 : a1 0 = 0) (u1 : a1 1 = 0) (hp : post (ej_z L, 2, 0, le, pk, a1, a2, a3, a4, a5, a6, a7, a8, a9, a10, a11)) : wpX_askPinned post (ej_z L, 2, nn, le, pk, a1, a2, a3, a4, a5, a6, a7, a8, a9, a10, a11) x1 x2 :=
  Exists.intro 3 (ej_skip ej_i0 (by decide) ej_01 (Or.inl u0) (ej_skip ej_i1 (by decide) ej_11 (Or.inl u1) (ej_stop hp)))
/-- the first alone is there -/
theorem ej_ap0 {post : St2 → Prop} {r0 d0 : Int} (u0 : a1 0 = 1) (u1 : a1 1 = 0) (B0 : 0 ≤ r0 ∧ r0 ≤ 40) (D0 : 0 ≤ d0 ∧ d0 ≤ 40) (h20 : a2 0 = ej_z r0) (h30 : a3 0 = ej_z d0) (hp : ∀ b c : Nat → Int32, b 0 = ej_z r0 → c 0 = ej_z d0 → post (ej_z L, 2, ej_z 1, le, pk, a1, a2, a3, a4, a5, a6, b, c, a9, a10, a11)) : wpX_askPinned post (ej_z L, 2, nn, le, pk, a1, a2, a3, a4, a5, a6, a7, a8, a9, a10, a11) (-1) 0 :=
  Exists.intro 3 (ej_take0 r0 d0 ej_i0 (by decide) ej_01 (fun z => absurd (u0.symm.trans z) (by decide)) (by decide) (by decide) h20 h30 (by omega) (by omega) (fun b c hb hc => ej_skip ej_i1 (by decide) ej_11 (Or.inl u1) (ej_stop (hp b c hb hc))))
/-- both are there, all are asked about -/
theorem ej_apB {post : St2 → Prop} {r0 d0 r1 d1 : Int} (u0 : a1 0 = 1) (u1 : a1 1 = 1) (B0 : 0 ≤ r0 ∧ r0 ≤ 40) (D0 : 0 ≤ d0 ∧ d0 ≤ 40) (h20 : a2 0 = ej_z r0) (h30 : a3 0 = ej_z d0) (B1 : 0 ≤ r1 ∧ r1 ≤ 40) (D1 : 0 ≤ d1 ∧ d1 ≤ 40) (h21 : a2 1 = ej_z r1) (h31 : a3 1 = ej_z d1) (hp : ∀ b c : Nat → Int32, b 0 = ej_z r0 → b 1 = ej_z r1 → c 0 = ej_z d0 → c 1 = ej_z d1 → post (ej_z L, 2, ej_z 2, le, pk, a1, a2, a3, a4, a5, a6, b, c, a9, a10, a11)) : wpX_askPinned post (ej_z L, 2, nn, le, pk, a1, a2, a3, a4, a5, a6, a7, a8, a9, a10, a11) (-1) 0 :=
  Exists.intro 3 (ej_take0 r0 d0 ej_i0 (by decide) ej_01 (fun z => absurd (u0.symm.trans z) (by decide)) (by decide) (by decide) h20 h30 (by omega) (by omega) (fun b c hb hc => ej_take1 r1 d1 ej_i1 (by decide) ej_11 (fun z => absurd (u1.symm.trans z) (by decide)) (by decide) (by decide) h21 h31 (by omega) (by omega) (fun b' c' e1 e2 e3 e4 => ej_stop (hp b' c' (e1.trans hb) e2 (e3.trans hc) e4))))
/-- both are there, the second is asked about -/
theorem ej_ap1 {post : St2 → Prop} {r1 d1 : Int} (u0 : a1 0 = 1) (u1 : a1 1 = 1) (B1 : 0 ≤ r1 ∧ r1 ≤ 40) (D1 : 0 ≤ d1 ∧ d1 ≤ 40) (h21 : a2 1 = ej_z r1) (h31 : a3 1 = ej_z d1) (hp : ∀ b c : Nat → Int32, b 0 = ej_z r1 → c 0 = ej_z d1 → post (ej_z L, 2, ej_z 1, le, pk, a1, a2, a3, a4, a5, a6, b, c, a9, a10, a11)) : wpX_askPinned post (ej_z L, 2, nn, le, pk, a1, a2, a3, a4, a5, a6, a7, a8, a9, a10, a11) 0 0 :=
  Exists.intro 3 (ej_skip ej_i0 (by decide) ej_01 (Or.inr ⟨fun z => absurd (u0.symm.trans z) (by decide), rfl⟩) (ej_take0 r1 d1 ej_i1 (by decide) ej_11 (fun z => absurd (u1.symm.trans z) (by decide)) (by decide) (by decide) h21 h31 (by omega) (by omega) (fun b c hb hc => ej_stop (hp b c hb hc))))
/-- both are there, the first is asked about, held to its plan -/
theorem ej_apP {post : St2 → Prop} {p : Int} (u0 : a1 0 = 1) (u1 : a1 1 = 1) (Br : 0 ≤ p ∧ p ≤ 40) (hL : 1 ≤ L ∧ L ≤ 6) (h2 : a11 0 = ej_z p) (hp : ∀ b c : Nat → Int32, b 0 = ej_z p → c 0 = ej_z (p + L) → post (ej_z L, 2, ej_z 1, le, pk, a1, a2, a3, a4, a5, a6, b, c, a9, a10, a11)) : wpX_askPinned post (ej_z L, 2, nn, le, pk, a1, a2, a3, a4, a5, a6, a7, a8, a9, a10, a11) 1 1 :=
  Exists.intro 3 (ej_pin0 p ej_i0 (by decide) ej_01 (fun z => absurd (u0.symm.trans z) (by decide)) (by decide) (by decide) h2 Br hL (fun b c hb hc => ej_skip ej_i1 (by decide) ej_11 (Or.inr ⟨fun z => absurd (u1.symm.trans z) (by decide), rfl⟩) (ej_stop (hp b c hb hc))))
end
end
section
section
variable {L r0 d0 r1 d1 : Int} {cp le pk nn : Int32} {a1 a2 a3 a4 a5 a6 a7 a8 a9 a10 a11 : Nat → Int32}
/-- the earliest start of the first job: the search -/
theorem ej_eoA {post : Int32 → St2 → Prop} (ans : Int) (hL : 1 ≤ L ∧ L ≤ 6) (u0 : a1 0 = 1) (u1 : a1 1 = 1) (B0 : 0 ≤ r0 ∧ r0 ≤ 40) (D0 : 0 ≤ d0 ∧ d0 ≤ 40) (h20 : a2 0 = ej_z r0) (h30 : a3 0 = ej_z d0) (B1 : 0 ≤ r1 ∧ r1 ≤ 40) (D1 : 0 ≤ d1 ∧ d1 ≤ 40) (h21 : a2 1 = ej_z r1) (h31 : a3 1 = ej_z d1) (h4 : ∀ j, j < 4 → a4 j = 0) (hA : ∀ m, r0 ≤ m → m + L ≤ d0 → (ej_can L r1 d1 r0 (m + L) ↔ ans ≤ m))
    (hp : ∀ (nn l : Int32) (b7 b8 b9 b10 : Nat → Int32), post (ej_z ans) (ej_z L, 2, nn, l, pk, a1, a2, a3, a4, a5, a6, b7, b8, b9, b10, a11)) :
    ∀ (k : Nat) (lo hi q : Int) (nn l : Int32) (b7 b8 b9 b10 : Nat → Int32), q + (k : Int) = 8 → 0 ≤ q → hi - lo < 2 ^ k → r0 ≤ lo → lo ≤ ans → ans ≤ hi → hi + L ≤ d0 → wX_earliestOf_23 post 0 0 (k + 1) (ej_z lo) (ej_z hi) (ej_z q) (ej_z L) 2 nn l pk a1 a2 a3 a4 a5 a6 b7 b8 b9 b10 a11 := by
  intro k
  induction k with
  | zero =>
    intro lo hi q nn l b7 b8 b9 b10 hq hq0 hg g1 g2 g3 g4
    have e : lo = ans := by omega
    subst e
    exact ej_le 8 q (fun _ => hp nn l b7 b8 b9 b10) (fun z => absurd z (by omega))
  | succ k ih =>
    intro lo hi q nn l b7 b8 b9 b10 hq hq0 hg g1 g2 g3 g4
    have hg' : hi - lo < 2 * 2 ^ k := by rw [Int.pow_succ] at hg; omega
    refine ej_le 8 q (fun z => absurd z (by omega)) (fun _ => ej_le hi lo (fun z => ?_) (fun z => ?_))
    · have e : lo = ans := by omega
      subst e
      exact hp nn l b7 b8 b9 b10
    · obtain ⟨m, em⟩ : ∃ m, m = (lo + hi) / 2 := ⟨_, rfl⟩
      refine nm_r (e' := ej_z m) (by rw [ej_add, ej_shr (by omega), em]) ?_
      refine ej_ap1 (nn := nn) u0 u1 B1 D1 h21 h31 (fun b c hb hc => And.intro ej_i0 ?_)
      refine ej_ask1 r0 (m + L) h20 (ej_add m L) (by omega) (by omega) (fun b' c' e1 e2 e3 e4 => ?_)
      have hm := hA m (by omega) (by omega)
      refine ej_fe2 (ra := r1) (da := d1) (rb := r0) (db := m + L) rfl hL B1 B0 D1 (by omega) (e1.trans hb) (fun _ => e2) (e3.trans hc) (fun _ => e4) h4 (fun g b c => ?_) (fun E g _ b c => ?_)
      · have : ¬ ans ≤ m := fun z => g (hm.mpr z)
        exact br_t rfl (nm_r (ej_p1 m) (nm_r (ej_p1 q) (ih (m + 1) hi (q + 1) _ _ _ _ _ _ (by omega) (by omega) (by omega) (by omega) (by omega) g3 g4)))
      · have := hm.mp g
        exact br_f (by decide) (nm_r (ej_p1 q) (ih lo m (q + 1) _ _ _ _ _ _ (by omega) (by omega) (by omega) g1 g2 this (by omega)))
/-- the latest start of the first job: the search -/
theorem ej_lsA {post : Int32 → St2 → Prop} (ans : Int) (hL : 1 ≤ L ∧ L ≤ 6) (u0 : a1 0 = 1) (u1 : a1 1 = 1) (B0 : 0 ≤ r0 ∧ r0 ≤ 40) (D0 : 0 ≤ d0 ∧ d0 ≤ 40) (h20 : a2 0 = ej_z r0) (h30 : a3 0 = ej_z d0) (B1 : 0 ≤ r1 ∧ r1 ≤ 40) (D1 : 0 ≤ d1 ∧ d1 ≤ 40) (h21 : a2 1 = ej_z r1) (h31 : a3 1 = ej_z d1) (h4 : ∀ j, j < 4 → a4 j = 0) (hA : ∀ m, r0 ≤ m → m + L ≤ d0 → (ej_can L r1 d1 m d0 ↔ m ≤ ans))
    (hp : ∀ (nn l : Int32) (b7 b8 b9 b10 : Nat → Int32), post (ej_z ans) (ej_z L, 2, nn, l, pk, a1, a2, a3, a4, a5, a6, b7, b8, b9, b10, a11)) :
    ∀ (k : Nat) (lo hi q : Int) (nn l : Int32) (b7 b8 b9 b10 : Nat → Int32), q + (k : Int) = 8 → 0 ≤ q → hi - lo < 2 ^ k → r0 ≤ lo → lo ≤ ans → ans ≤ hi → hi + L ≤ d0 → wX_latestStart_32 post 0 (k + 1) (ej_z lo) (ej_z hi) (ej_z q) (ej_z L) 2 nn l pk a1 a2 a3 a4 a5 a6 b7 b8 b9 b10 a11 := by
  intro k
  induction k with
  | zero =>
    intro lo hi q nn l b7 b8 b9 b10 hq hq0 hg g1 g2 g3 g4
    have e : lo = ans := by omega
    subst e
    exact ej_le 8 q (fun _ => hp nn l b7 b8 b9 b10) (fun z => absurd z (by omega))
  | succ k ih =>
    intro lo hi q nn l b7 b8 b9 b10 hq hq0 hg g1 g2 g3 g4
    have hg' : hi - lo < 2 * 2 ^ k := by rw [Int.pow_succ] at hg; omega
    refine ej_le 8 q (fun z => absurd z (by omega)) (fun _ => ej_le hi lo (fun z => ?_) (fun z => ?_))
    · have e : lo = ans := by omega
      subst e
      exact hp nn l b7 b8 b9 b10
    · obtain ⟨m, em⟩ : ∃ m, m = (lo + hi + 1) / 2 := ⟨_, rfl⟩
      refine nm_r (e' := ej_z m) (by rw [ej_add, ej_p1, ej_shr (by omega), em]) ?_
      refine ej_ap1 (nn := nn) u0 u1 B1 D1 h21 h31 (fun b c hb hc => And.intro ej_i0 ?_)
      refine ej_ask1 m d0 rfl h30 (by omega) (by omega) (fun b' c' e1 e2 e3 e4 => ?_)
      have hm := hA m (by omega) (by omega)
      refine ej_fe2 (ra := r1) (da := d1) (rb := m) (db := d0) rfl hL B1 (by omega) D1 D0 (e1.trans hb) (fun _ => e2) (e3.trans hc) (fun _ => e4) h4 (fun g b c => ?_) (fun E g _ b c => ?_)
      · have : ¬ m ≤ ans := fun z => g (hm.mpr z)
        exact br_t rfl (nm_r (ej_s1 m) (nm_r (ej_p1 q) (ih lo (m - 1) (q + 1) _ _ _ _ _ _ (by omega) (by omega) (by omega) g1 g2 (by omega) (by omega))))
      · have := hm.mp g
        exact br_f (by decide) (nm_r (ej_p1 q) (ih m hi (q + 1) _ _ _ _ _ _ (by omega) (by omega) (by omega) (by omega) this g3 g4))
/-- every release asked about is raised to t -/
theorem ej_rai {post : St2 → Prop} {ra rb : Int} (t : Int) (Bt : 0 ≤ t ∧ t ≤ 40) (Ba : 0 ≤ ra ∧ ra ≤ 40) (Bb : 0 ≤ rb ∧ rb ≤ 40) (h70 : a7 0 = ej_z ra) (h71 : a7 1 = ej_z rb) (hp : ∀ b : Nat → Int32, b 0 = ej_z (max ra t) → b 1 = ej_z (max rb t) → post (ej_z L, cp, ej_z 2, le, pk, a1, a2, a3, a4, a5, a6, b, a8, a9, a10, a11)) : wpX_raise post (ej_z L, cp, ej_z 2, le, pk, a1, a2, a3, a4, a5, a6, a7, a8, a9, a10, a11) (ej_z t) := by
  have k2 : ∀ b : Nat → Int32, b 0 = ej_z (max ra t) → b 1 = ej_z (max rb t) → wX_raise_2 post (ej_z t) (ej_z L) cp (ej_z 2) le pk 1 2 a1 a2 a3 a4 a5 a6 b a8 a9 a10 a11 := fun b e0 e1 => ej_le 2 2 (fun _ => hp b e0 e1) (fun z => absurd z (by omega))
  have k1 : ∀ b : Nat → Int32, b 0 = ej_z (max ra t) → b 1 = ej_z rb → wX_raise_2 post (ej_z t) (ej_z L) cp (ej_z 2) le pk 2 1 a1 a2 a3 a4 a5 a6 b a8 a9 a10 a11 := fun b e0 e1 =>
    ej_le 2 1 (fun z => absurd z (by omega)) (fun _ => ⟨ej_i1, ej_le t rb (fun z => nm_r ej_11 (k2 b e0 (by rw [e1, show max rb t = rb by omega]))) (fun z => ⟨ej_i1, nm_e (nm_r ej_11 (k2 _ (ej_un (k := 1) (by decide) e0) (ej_us (k := 1) (by rw [ej_byte (by omega), show max rb t = t by omega]))))⟩) rfl e1⟩)
  exact Exists.intro 3 (ej_le 2 0 (fun z => absurd z (by omega)) (fun _ => ⟨ej_i0, ej_le t ra (fun z => nm_r ej_01 (k1 a7 (by rw [h70, show max ra t = ra by omega]) h71)) (fun z => ⟨ej_i0, nm_e (nm_r ej_01 (k1 _ (ej_us (k := 0) (by rw [ej_byte (by omega), show max ra t = t by omega])) (ej_un (k := 0) (by decide) h71)))⟩) rfl h70⟩))
/-- the latest begin: the search -/
theorem ej_lbA {post : Int32 → St2 → Prop} (ans : Int) (hL : 1 ≤ L ∧ L ≤ 6) (u0 : a1 0 = 1) (u1 : a1 1 = 1) (B0 : 0 ≤ r0 ∧ r0 ≤ 40) (D0 : 0 ≤ d0 ∧ d0 ≤ 40) (h20 : a2 0 = ej_z r0) (h30 : a3 0 = ej_z d0) (B1 : 0 ≤ r1 ∧ r1 ≤ 40) (D1 : 0 ≤ d1 ∧ d1 ≤ 40) (h21 : a2 1 = ej_z r1) (h31 : a3 1 = ej_z d1) (h4 : ∀ j, j < 4 → a4 j = 0) (hA : ∀ m, 0 ≤ m → m ≤ 40 → (ej_can L (max r0 m) d0 (max r1 m) d1 ↔ m ≤ ans))
    (hp : ∀ (nn l : Int32) (b7 b8 b9 b10 : Nat → Int32), post (ej_z ans) (ej_z L, 2, nn, l, pk, a1, a2, a3, a4, a5, a6, b7, b8, b9, b10, a11)) :
    ∀ (k : Nat) (lo hi q : Int) (nn l : Int32) (b7 b8 b9 b10 : Nat → Int32), q + (k : Int) = 8 → 0 ≤ q → hi - lo < 2 ^ k → 0 ≤ lo → lo ≤ ans → ans ≤ hi → hi ≤ 40 → wX_latestBegin_7 post (k + 1) (ej_z lo) (ej_z hi) (ej_z q) (ej_z L) 2 nn l pk a1 a2 a3 a4 a5 a6 b7 b8 b9 b10 a11 := by
  intro k
  induction k with
  | zero =>
    intro lo hi q nn l b7 b8 b9 b10 hq hq0 hg g1 g2 g3 g4
    have e : lo = ans := by omega
    subst e
    exact ej_le 8 q (fun _ => hp nn l b7 b8 b9 b10) (fun z => absurd z (by omega))
  | succ k ih =>
    intro lo hi q nn l b7 b8 b9 b10 hq hq0 hg g1 g2 g3 g4
    have hg' : hi - lo < 2 * 2 ^ k := by rw [Int.pow_succ] at hg; omega
    refine ej_le 8 q (fun z => absurd z (by omega)) (fun _ => ej_le hi lo (fun z => ?_) (fun z => ?_))
    · have e : lo = ans := by omega
      subst e
      exact hp nn l b7 b8 b9 b10
    · obtain ⟨m, em⟩ : ∃ m, m = (lo + hi + 1) / 2 := ⟨_, rfl⟩
      refine nm_r (e' := ej_z m) (by rw [ej_add, ej_p1, ej_shr (by omega), em]) ?_
      refine ej_apB (nn := nn) u0 u1 B0 D0 h20 h30 B1 D1 h21 h31 (fun b c e1 e2 e3 e4 => ?_)
      refine ej_rai m (by omega) B0 B1 e1 e2 (fun b' e5 e6 => ?_)
      have hm := hA m (by omega) (by omega)
      refine ej_fe2 (ra := max r0 m) (da := d0) (rb := max r1 m) (db := d1) rfl hL (by omega) (by omega) D0 D1 e5 (fun _ => e6) e3 (fun _ => e4) h4 (fun g b c => ?_) (fun E g _ b c => ?_)
      · have : ¬ m ≤ ans := fun z => g (hm.mpr z)
        exact br_t rfl (nm_r (ej_s1 m) (nm_r (ej_p1 q) (ih lo (m - 1) (q + 1) _ _ _ _ _ _ (by omega) (by omega) (by omega) g1 g2 (by omega) (by omega))))
      · have := hm.mp g
        exact br_f (by decide) (nm_r (ej_p1 q) (ih m hi (q + 1) _ _ _ _ _ _ (by omega) (by omega) (by omega) (by omega) this g3 g4))
end
end
section
section
variable {L n ra da rb db : Int} {cp le pk : Int32} {a1 a2 a3 a4 a5 a6 a7 a8 a9 a10 a11 : Nat → Int32}
theorem ey_sbL {post : St2 → Prop} {lo hi : Int} (hh : -100 ≤ hi ∧ hi ≤ 47) (hp : ∀ b, ej_up a10 b lo hi → post (ej_z L, cp, ej_z n, le, pk, a1, a2, a3, a4, a5, a6, a7, a8, a9, b, a11)) : ∀ (k : Nat) (t : Int) (c : Nat → Int32), 48 - t < (k : Int) → 0 ≤ t → lo < t → t ≤ 48 → (∀ j : Nat, j < 48 → ((lo < (j : Int) ∧ (j : Int) < t ∧ (j : Int) < hi → c j = 1) ∧ (¬ (lo < (j : Int) ∧ (j : Int) < t ∧ (j : Int) < hi) → c j = a10 j))) → wX_shutBetween_2_12 post (ej_z hi) (ej_z L) cp (ej_z n) le pk k (ej_z t) a1 a2 a3 a4 a5 a6 a7 a8 a9 c a11 := by
  intro k
  induction k with
  | zero => intro t c h1 h2 h3 h4 hc; omega
  | succ k ih =>
    intro t c h1 h2 h3 h4 hc
    have fin : hi ≤ t → post (ej_z L, cp, ej_z n, le, pk, a1, a2, a3, a4, a5, a6, a7, a8, a9, c, a11) := fun h => hp c (fun j hj => ⟨fun z => (hc j hj).1 (by omega), fun z => (hc j hj).2 (by omega)⟩)
    refine ej_le hi t fin (fun h => ej_le 48 t (fun h' => fin (by omega)) (fun h' => ⟨ej_in t 48 (by omega) (by omega), ?_⟩))
    obtain ⟨i, rfl⟩ : ∃ i : Nat, t = (i : Int) := ⟨t.toNat, by omega⟩
    rw [ej_cl i rfl (by omega)]
    refine nm_e (nm_r (ej_p1 i) (ih (i + 1) _ (by omega) (by omega) (by omega) (by omega) (fun j hj => ?_)))
    by_cases e : j = i
    · subst e
      exact ⟨fun _ => pk_us, fun z => absurd ⟨h3, by omega, h⟩ z⟩
    · rw [pk_un e]
      exact ⟨fun z => (hc j hj).1 (by omega), fun z => (hc j hj).2 (by omega)⟩
theorem ey_sbW {post : St2 → Prop} {lo hi : Int} (hl : -100 ≤ lo ∧ lo ≤ 47) (hh : -100 ≤ hi ∧ hi ≤ 47) (hp : ∀ b, ej_up a10 b lo hi → post (ej_z L, cp, ej_z n, le, pk, a1, a2, a3, a4, a5, a6, a7, a8, a9, b, a11)) : wpX_shutBetween_2 post (ej_z L, cp, ej_z n, le, pk, a1, a2, a3, a4, a5, a6, a7, a8, a9, a10, a11) (ej_z lo) (ej_z hi) := by
  refine ej_le 0 lo (fun h => nm_r (ej_p1 lo) (Exists.intro 50 ?_)) (fun h => Exists.intro 50 ?_)
  · exact ey_sbL hh hp 50 (lo + 1) a10 (by omega) (by omega) (by omega) (by omega) (fun j hj => ⟨fun z => absurd z (by omega), fun _ => rfl⟩)
  · exact ey_sbL hh hp 50 0 a10 (by omega) (by omega) (by omega) (by omega) (fun j hj => ⟨fun z => absurd z (by omega), fun _ => rfl⟩)
theorem ey_s23 {post : St2 → Prop} (h4 : ∀ j, j < 4 → a4 j = 0) (hp : post (ej_z L, cp, ej_z n, le, pk, a1, a2, a3, a4, a5, a6, a7, a8, a9, a10, a11)) : ∃ k, wX_shutBlocks_2_23 post k 0 (ej_z L) cp (ej_z n) le pk a1 a2 a3 a4 a5 a6 a7 a8 a9 a10 a11 :=
  pk_loop (σ := Unit) (fun k i _ => wX_shutBlocks_2_23 post k (nI i) (ej_z L) cp (ej_z n) le pk a1 a2 a3 a4 a5 a6 a7 a8 a9 a10 a11) (fun _ _ => True) 4 0 () (by omega) trivial
    (fun k _ _ => pk_le 4 4 (fun _ => hp) (fun z => absurd z (by omega)))
    (fun k i _ hi _ hw => pk_le 4 i (fun z => absurd z (by omega)) (fun _ => ⟨ej_i4 hi, br_t (by rw [nI_clamp (by omega)]; exact h4 i hi) (nm_r (nI_1 i) (hw () trivial))⟩))
theorem ey_shb {post : St2 → Prop} (h4 : ∀ j, j < 4 → a4 j = 0) (hp : ∀ b, (∀ j, j < 48 → b j = 0) → post (ej_z L, cp, ej_z n, le, pk, a1, a2, a3, a4, a5, a6, a7, a8, a9, b, a11)) : wpX_shutBlocks_2 post (ej_z L, cp, ej_z n, le, pk, a1, a2, a3, a4, a5, a6, a7, a8, a9, a10, a11) :=
  pk_loop (fun k i c => wX_shutBlocks_2_2 post (ej_z L) cp (ej_z n) le pk k (nI i) a1 a2 a3 a4 a5 a6 a7 a8 a9 c a11) (fun i c => ∀ j, j < i → c j = 0) 48 0 a10 (by omega) (fun j hj => absurd hj (by omega))
    (fun k c h => pk_le 48 48 (fun _ => ey_s23 h4 (hp c h)) (fun z => absurd z (by omega)))
    (fun k i c hi h hw => pk_le 48 i (fun z => absurd z (by omega)) (fun _ => ⟨pk_in i 48 hi, nm_e (nm_r (nI_1 i) (hw _ (fun j hj => by
      rw [nI_clamp (by omega)]
      by_cases e : j = i
      · rw [e, pk_us]
      · rw [pk_un e]; exact h j (by omega))))⟩))
end
section
variable {L n ra da rb db : Int} {cp le pk : Int32} {a1 a2 a3 a4 a5 a6 a7 a8 a9 a10 a11 : Nat → Int32}
theorem ey_sbf {post : Int32 → St2 → Prop} {lo hi : Int} (r K : Int) (hn : n = 1 ∨ n = 2) (hL : 1 ≤ L ∧ L ≤ 6) (Ba : 0 ≤ ra ∧ ra ≤ 40) (Bb : 0 ≤ rb ∧ rb ≤ 40) (Ca : 0 ≤ da ∧ da ≤ 40) (Cb : 0 ≤ db ∧ db ≤ 40) (h70 : a7 0 = ej_z ra) (h71 : n = 2 → a7 1 = ej_z rb) (h80 : a8 0 = ej_z da) (h81 : n = 2 → a8 1 = ej_z db) (Br : 0 ≤ r ∧ r ≤ 40)
    (hs : ej_sh a10 0 lo hi) (hl : -100 ≤ lo) (hK : ej_cr n L ra da rb db lo hi r = K)
    (h0 : K < r → post 0 (ej_z L, cp, ej_z n, le, pk, a1, a2, a3, a4, a5, a6, a7, a8, a9, a10, a11)) (h1 : r ≤ K → r + L ≤ K → post 1 (ej_z L, cp, ej_z n, le, pk, a1, a2, a3, a4, a5, a6, a7, a8, a9, a10, a11)) (h2 : r ≤ K → K < r + L → ∀ b, ej_up a10 b (K - L) r → post 1 (ej_z L, cp, ej_z n, le, pk, a1, a2, a3, a4, a5, a6, a7, a8, a9, b, a11)) :
    wpX_shutBefore_2 post (ej_z L, cp, ej_z n, le, pk, a1, a2, a3, a4, a5, a6, a7, a8, a9, a10, a11) (ej_z r) := by
  unfold ej_cr at hK
  have hc0 := ej_cwB n ra da rb db r da
  have hc1 := ej_cwB n ra da rb db r db
  generalize e0 : ej_cw n ra da rb db r da = c0 at hK hc0
  generalize e1 : ej_cw n ra da rb db r db = c1 at hK hc1
  have b0 := ej_bfB (L := L) (lo := lo) (hi := hi) (d := da) (c := c0) hl hL Ca
  have b1 := ej_bfB (L := L) (lo := lo) (hi := hi) (d := db) (c := c1) hl hL Cb
  have kK : -1 ≤ K ∧ K ≤ 41 := by
    rw [← hK]; split <;> omega
  have k2 : n = 2 → wX_shutBefore_2_5 post (ej_z r) (ej_z L) cp (ej_z n) le pk a1 a2 a3 a4 a5 a6 a7 a8 a9 a10 a11 1 (ej_z K) 2 := fun h => ej_le n 2 (fun _ => ej_le r K (fun g => ej_le (r + L) K (fun g2 => h1 g g2) (fun g2 => by rw [ej_sub]; exact ey_sbW (by omega) (by omega) (fun b hb => h2 g g2 b hb)) (ej_add r L) rfl) (fun g => h0 g)) (fun z => absurd z (by omega))
  have k1 : wX_shutBefore_2_5 post (ej_z r) (ej_z L) cp (ej_z n) le pk a1 a2 a3 a4 a5 a6 a7 a8 a9 a10 a11 2 (ej_z (min 41 (ej_bf L lo hi da c0))) 1 := by
    refine ej_le n 1 (fun z => ?_) (fun z => ⟨ej_i1, nm_r (h81 (by omega)) ?_⟩)
    · rw [if_neg (by omega)] at hK
      rw [hK]
      exact ej_le r K (fun g => ej_le (r + L) K (fun g2 => h1 g g2) (fun g2 => by rw [ej_sub]; exact ey_sbW (by omega) (by omega) (fun b hb => h2 g g2 b hb)) (ej_add r L) rfl) (fun g => h0 g)
    · have h2n : n = 2 := by omega
      rw [if_pos h2n] at hK
      refine ej_cwW r db hn (by omega) (by omega) Ba Bb Ca Cb h70 h71 h80 h81 ?_
      rw [e1]
      refine ej_bfW db c1 hs hl hL Cb hc1 ?_
      refine ej_le (min 41 (ej_bf L lo hi da c0)) (ej_bf L lo hi db c1) (fun g => nm_r ej_11 ?_) (fun g => nm_r ej_11 ?_)
      · rw [show min 41 (ej_bf L lo hi da c0) = K by omega]
        exact k2 h2n
      · rw [show ej_bf L lo hi db c1 = K by omega]
        exact k2 h2n
  refine Exists.intro 3 (ej_le n 0 (fun z => absurd z (by omega)) (fun z => ⟨ej_i0, nm_r h80 ?_⟩))
  refine ej_cwW r da hn (by omega) (by omega) Ba Bb Ca Cb h70 h71 h80 h81 ?_
  rw [e0]
  refine ej_bfW da c0 hs hl hL Ca hc0 ?_
  refine ej_le 41 (ej_bf L lo hi da c0) (fun g => nm_r ej_01 ?_) (fun g => nm_r ej_01 ?_)
  · rw [show min 41 (ej_bf L lo hi da c0) = 41 by omega] at k1
    exact k1
  · rw [show min 41 (ej_bf L lo hi da c0) = ej_bf L lo hi da c0 by omega] at k1
    exact k1
/-- one turn of dispatch, from t0 on -/
theorem ey_d51 {post : Int32 → St2 → Prop} {J : Int32 → Int32 → (Nat → Int32) → (Nat → Int32) → (Nat → Int32) → (Nat → Int32) → (Nat → Int32) → (Nat → Int32) → (Nat → Int32) → (Nat → Int32) → (Nat → Int32) → (Nat → Int32) → (Nat → Int32) → Prop} {m lo hi : Int} (k t0 t v0 v1 : Int) (hn : n = 1 ∨ n = 2) (hL : 1 ≤ L ∧ L ≤ 6) (Ba : 0 ≤ ra ∧ ra ≤ 40) (Bb : 0 ≤ rb ∧ rb ≤ 40) (Ca : 0 ≤ da ∧ da ≤ 40) (Cb : 0 ≤ db ∧ db ≤ 40) (h70 : a7 0 = ej_z ra) (h71 : n = 2 → a7 1 = ej_z rb) (h80 : a8 0 = ej_z da) (h81 : n = 2 → a8 1 = ej_z db)
    (V0 : 0 ≤ v0 ∧ v0 ≤ 1) (V1 : 0 ≤ v1 ∧ v1 ≤ 1) (h90 : a9 0 = ej_z v0) (h91 : n = 2 → a9 1 = ej_z v1) (hs : ej_sh a10 m lo hi) (hh : hi ≤ 47) (T0 : 0 ≤ t0 ∧ m ≤ t0 ∧ t0 ≤ 47) (et : ej_oa lo hi t0 = t)
    (h0 : (((v0 ≠ 0 ∨ t < ra) ∧ (n = 1 ∨ v1 ≠ 0 ∨ t < rb)) ∨ (v0 = 0 ∧ ra ≤ t ∧ (n = 1 ∨ v1 ≠ 0 ∨ t < rb ∨ da ≤ db) ∧ da < t + L) ∨ (n = 2 ∧ v1 = 0 ∧ rb ≤ t ∧ (v0 ≠ 0 ∨ t < ra ∨ db < da) ∧ db < t + L)) → post 0 (ej_z L, cp, ej_z n, le, pk, a1, a2, a3, a4, a5, a6, a7, a8, a9, a10, a11))
    (hA : v0 = 0 ∧ ra ≤ t ∧ (n = 1 ∨ v1 ≠ 0 ∨ t < rb ∨ da ≤ db) ∧ t + L ≤ da → J (ej_z (t + L)) (ej_z (k + 1)) a1 a2 a3 a4 a5 a6 a7 a8 (upd a9 0 1) a10 a11)
    (hB : n = 2 ∧ v1 = 0 ∧ rb ≤ t ∧ (v0 ≠ 0 ∨ t < ra ∨ db < da) ∧ t + L ≤ db → J (ej_z (t + L)) (ej_z (k + 1)) a1 a2 a3 a4 a5 a6 a7 a8 (upd a9 1 1) a10 a11) :
    wX_dispatch_2_51 post J (ej_z k) (ej_z t0) (ej_z L) cp (ej_z n) le pk a1 a2 a3 a4 a5 a6 a7 a8 a9 a10 a11 := by
  have Bt : 0 ≤ t ∧ t ≤ 47 := by
    rw [← et]; unfold ej_oa; split <;> omega
  refine ej_oaW t0 hs hh T0.1 T0.2.1 T0.2.2 ?_
  rw [et]
  refine ej_mu t v0 v1 hn (by omega) V0 V1 Ba Bb Ca Cb h70 h71 h80 h81 h90 h91 (fun b hb => ?_)
  rcases hb with ⟨e, g1, g2⟩ | ⟨e, g1, g2, g3⟩ | ⟨e, g1, g2, g3, g4⟩
  · subst e
    exact ej_lt (-1) 0 (fun _ => h0 (Or.inl ⟨g1, g2⟩)) (fun z => absurd z (by omega))
  · subst e
    exact ej_lt 0 0 (fun z => absurd z (by omega)) (fun _ => ⟨ej_i0, ej_le (t + L) da (fun z => ⟨ej_i0, nm_e (nm_r (ej_add t L) (nm_r (ej_p1 k) (hA ⟨g1, g2, g3, z⟩)))⟩) (fun z => h0 (Or.inr (Or.inl ⟨g1, g2, g3, z⟩))) (ej_add t L) h80⟩)
  · subst e
    exact ej_lt 1 0 (fun z => absurd z (by omega)) (fun _ => ⟨ej_i1, ej_le (t + L) db (fun z => ⟨ej_i1, nm_e (nm_r (ej_add t L) (nm_r (ej_p1 k) (hB ⟨g1, g2, g3, g4, z⟩)))⟩) (fun z => h0 (Or.inr (Or.inr ⟨g1, g2, g3, g4, z⟩))) (ej_add t L) (h81 g1)⟩)
/-- the second turn, the second job placed already -/
theorem ey_dB {post : Int32 → St2 → Prop} {m lo hi : Int} (t u : Int) (hn : n = 2) (hL : 1 ≤ L ∧ L ≤ 6) (Ba : 0 ≤ ra ∧ ra ≤ 40) (Bb : 0 ≤ rb ∧ rb ≤ 40) (Ca : 0 ≤ da ∧ da ≤ 40) (Cb : 0 ≤ db ∧ db ≤ 40) (h70 : a7 0 = ej_z ra) (h71 : n = 2 → a7 1 = ej_z rb) (h80 : a8 0 = ej_z da) (h81 : n = 2 → a8 1 = ej_z db) (h90 : a9 0 = ej_z 0) (h91 : a9 1 = ej_z 1) (hs : ej_sh a10 m lo hi) (hh : hi ≤ 40) (hm : m ≤ ra) (Bt : 0 ≤ t ∧ t ≤ 40) (et : ej_oa lo hi (max ra t) = u)
    (h0 : da < u + L → ∀ b, post 0 (ej_z L, cp, ej_z n, le, pk, a1, a2, a3, a4, a5, a6, a7, a8, b, a10, a11)) (h1 : u + L ≤ da → ∀ b, post 1 (ej_z L, cp, ej_z n, ej_z (u + L), pk, a1, a2, a3, a4, a5, a6, a7, a8, b, a10, a11)) : wX_dispatch_2_27 post (ej_z L) cp (ej_z n) le pk 2 (ej_z t) (ej_z 1) a1 a2 a3 a4 a5 a6 a7 a8 a9 a10 a11 := by
  have Bu : max ra t ≤ u := by
    rw [← et]; unfold ej_oa; split <;> omega
  have go : ∀ t0, t0 = max ra t → wX_dispatch_2_51 post (wX_dispatch_2_27 post (ej_z L) cp (ej_z n) le pk 1) (ej_z 1) (ej_z t0) (ej_z L) cp (ej_z n) le pk a1 a2 a3 a4 a5 a6 a7 a8 a9 a10 a11 := fun t0 e0 => by
    refine ey_d51 (m := m) (lo := lo) (hi := hi) 1 t0 u 0 1 (Or.inr hn) hL Ba Bb Ca Cb h70 h71 h80 h81 (by omega) (by omega) h90 (fun _ => h91) hs (by omega) (by omega) (by rw [e0]; exact et) (fun z => h0 (by omega) _) (fun z => ?_) (fun z => absurd z.2.1 (by omega))
    exact ej_le n 2 (fun _ => h1 z.2.2.2 _) (fun z => absurd z (by omega))
  refine ej_le n 1 (fun z => absurd z (by omega)) (fun _ => ?_)
  refine ej_lwr 0 1 (Or.inr hn) (by omega) (by omega) Ba Bb h70 h71 h90 (fun _ => h91) (fun b hb => ?_)
  have eb : b = ra := by omega
  subst eb
  exact ej_le b t (fun z => go t (by omega)) (fun z => go b (by omega))
theorem ey_dA {post : Int32 → St2 → Prop} {m lo hi : Int} (t u : Int) (hn : n = 2) (hL : 1 ≤ L ∧ L ≤ 6) (Ba : 0 ≤ ra ∧ ra ≤ 40) (Bb : 0 ≤ rb ∧ rb ≤ 40) (Ca : 0 ≤ da ∧ da ≤ 40) (Cb : 0 ≤ db ∧ db ≤ 40) (h70 : a7 0 = ej_z ra) (h71 : n = 2 → a7 1 = ej_z rb) (h80 : a8 0 = ej_z da) (h81 : n = 2 → a8 1 = ej_z db) (h90 : a9 0 = ej_z 1) (h91 : a9 1 = ej_z 0) (hs : ej_sh a10 m lo hi) (hh : hi ≤ 40) (hm : m ≤ rb) (Bt : 0 ≤ t ∧ t ≤ 40) (et : ej_oa lo hi (max rb t) = u)
    (h0 : db < u + L → ∀ b, post 0 (ej_z L, cp, ej_z n, le, pk, a1, a2, a3, a4, a5, a6, a7, a8, b, a10, a11)) (h1 : u + L ≤ db → ∀ b, post 1 (ej_z L, cp, ej_z n, ej_z (u + L), pk, a1, a2, a3, a4, a5, a6, a7, a8, b, a10, a11)) : wX_dispatch_2_27 post (ej_z L) cp (ej_z n) le pk 2 (ej_z t) (ej_z 1) a1 a2 a3 a4 a5 a6 a7 a8 a9 a10 a11 := by
  have Bu : max rb t ≤ u := by
    rw [← et]; unfold ej_oa; split <;> omega
  have go : ∀ t0, t0 = max rb t → wX_dispatch_2_51 post (wX_dispatch_2_27 post (ej_z L) cp (ej_z n) le pk 1) (ej_z 1) (ej_z t0) (ej_z L) cp (ej_z n) le pk a1 a2 a3 a4 a5 a6 a7 a8 a9 a10 a11 := fun t0 e0 => by
    refine ey_d51 (m := m) (lo := lo) (hi := hi) 1 t0 u 1 0 (Or.inr hn) hL Ba Bb Ca Cb h70 h71 h80 h81 (by omega) (by omega) h90 (fun _ => h91) hs (by omega) (by omega) (by rw [e0]; exact et) (fun z => h0 (by omega) _) (fun z => absurd z.1 (by omega)) (fun z => ?_)
    exact ej_le n 2 (fun _ => h1 z.2.2.2.2 _) (fun z => absurd z (by omega))
  refine ej_le n 1 (fun z => absurd z (by omega)) (fun _ => ?_)
  refine ej_lwr 1 0 (Or.inr hn) (by omega) (by omega) Ba Bb h70 h71 h90 (fun _ => h91) (fun b hb => ?_)
  have eb : b = rb := by omega
  subst eb
  exact ej_le b t (fun z => go t (by omega)) (fun z => go b (by omega))
/-- the loop that clears placed -/
theorem ey_d0 {post : Int32 → St2 → Prop} (hn : n = 1 ∨ n = 2) (hp : ∀ b : Nat → Int32, b 0 = ej_z 0 → (n = 2 → b 1 = ej_z 0) → ∃ k, wX_dispatch_2_27 post (ej_z L) cp (ej_z n) le pk k 0 0 a1 a2 a3 a4 a5 a6 a7 a8 b a10 a11) : wpX_dispatch_2 post (ej_z L, cp, ej_z n, le, pk, a1, a2, a3, a4, a5, a6, a7, a8, a9, a10, a11) := by
  have k2 : n = 2 → ∀ b : Nat → Int32, b 0 = ej_z 0 → (n = 2 → b 1 = ej_z 0) → wX_dispatch_2_2 post (ej_z L) cp (ej_z n) le pk 1 2 a1 a2 a3 a4 a5 a6 a7 a8 b a10 a11 := fun h2 b hb hb1 => ej_le n 2 (fun _ => hp b hb hb1) (fun z => absurd z (by omega))
  have k1 : ∀ b : Nat → Int32, b 0 = ej_z 0 → wX_dispatch_2_2 post (ej_z L) cp (ej_z n) le pk 2 1 a1 a2 a3 a4 a5 a6 a7 a8 b a10 a11 := fun b hb => ej_le n 1 (fun z => hp b hb (fun z => absurd z (by omega))) (fun z => ⟨ej_i1, nm_e (nm_r ej_11 (k2 (by omega) _ (ej_un (k := 1) (by decide) hb) (fun _ => pk_us (k := 1))))⟩)
  exact Exists.intro 3 (ej_le n 0 (fun z => absurd z (by omega)) (fun z => ⟨ej_i0, nm_e (nm_r ej_01 (k1 _ (pk_us (k := 0))))⟩))
theorem ey_dp2 {post : Int32 → St2 → Prop} {m lo hi : Int} (hn : n = 2) (hL : 1 ≤ L ∧ L ≤ 6) (Ba : 0 ≤ ra ∧ ra ≤ 40) (Bb : 0 ≤ rb ∧ rb ≤ 40) (Ca : 0 ≤ da ∧ da ≤ 40) (Cb : 0 ≤ db ∧ db ≤ 40) (h70 : a7 0 = ej_z ra) (h71 : n = 2 → a7 1 = ej_z rb) (h80 : a8 0 = ej_z da) (h81 : n = 2 → a8 1 = ej_z db) (hs : ej_sh a10 m lo hi) (hh : hi ≤ 40) (hm : m ≤ ra ∧ m ≤ rb)
    (h0 : ej_dp L lo hi ra da rb db = -1 → ∀ b, post 0 (ej_z L, cp, ej_z n, le, pk, a1, a2, a3, a4, a5, a6, a7, a8, b, a10, a11)) (h1 : ej_dp L lo hi ra da rb db ≠ -1 → ∀ b, post 1 (ej_z L, cp, ej_z n, ej_z (ej_dp L lo hi ra da rb db), pk, a1, a2, a3, a4, a5, a6, a7, a8, b, a10, a11)) : wpX_dispatch_2 post (ej_z L, cp, ej_z n, le, pk, a1, a2, a3, a4, a5, a6, a7, a8, a9, a10, a11) := by
  refine ey_d0 (Or.inr hn) (fun b hb0 hb1 => Exists.intro 3 ?_)
  generalize et : ej_oa lo hi (min ra rb) = t
  have Bt : min ra rb ≤ t := by
    rw [← et]; unfold ej_oa; split <;> omega
  have go : wX_dispatch_2_51 post (wX_dispatch_2_27 post (ej_z L) cp (ej_z n) le pk 2) (ej_z 0) (ej_z (min ra rb)) (ej_z L) cp (ej_z n) le pk a1 a2 a3 a4 a5 a6 a7 a8 b a10 a11 := by
    refine ey_d51 (m := m) (lo := lo) (hi := hi) 0 (min ra rb) t 0 0 (Or.inr hn) hL Ba Bb Ca Cb h70 h71 h80 h81 (by omega) (by omega) hb0 hb1 hs (by omega) (by omega) et (fun z => h0 ?_ _) (fun z => ?_) (fun z => ?_)
    · unfold ej_dp
      rw [et]
      rcases z with z | z | z
      · exact absurd z (by omega)
      · rw [if_pos (by omega), if_pos (by omega)]
      · rw [if_neg (by omega), if_pos (by omega)]
    · have e : ej_dp L lo hi ra da rb db = if db < ej_oa lo hi (max rb (t + L)) + L then -1 else ej_oa lo hi (max rb (t + L)) + L := by
        unfold ej_dp
        rw [et, if_pos (by omega), if_neg (by omega)]
      refine ey_dA (m := m) (lo := lo) (hi := hi) (t + L) _ hn hL Ba Bb Ca Cb h70 h71 h80 h81 (pk_us (k := 0)) (ej_un (k := 0) (by decide) (hb1 hn)) hs hh hm.2 (by omega) rfl (fun g b => ?_) (fun g b => ?_)
      · rw [if_pos g] at e
        exact h0 e b
      · rw [if_neg (by omega)] at e
        rw [← e]
        exact h1 (by rw [e]; have := ej_oaG lo hi (max rb (t + L)); omega) b
    · have e : ej_dp L lo hi ra da rb db = if da < ej_oa lo hi (max ra (t + L)) + L then -1 else ej_oa lo hi (max ra (t + L)) + L := by
        unfold ej_dp
        rw [et, if_neg (by omega), if_neg (by omega)]
      refine ey_dB (m := m) (lo := lo) (hi := hi) (t + L) _ hn hL Ba Bb Ca Cb h70 h71 h80 h81 (ej_un (k := 1) (by decide) hb0) (pk_us (k := 1)) hs hh hm.1 (by omega) rfl (fun g b => ?_) (fun g b => ?_)
      · rw [if_pos g] at e
        exact h0 e b
      · rw [if_neg (by omega)] at e
        rw [← e]
        exact h1 (by rw [e]; have := ej_oaG lo hi (max ra (t + L)); omega) b
  refine ej_le n 0 (fun z => absurd z (by omega)) (fun _ => ?_)
  refine ej_lwr 0 0 (Or.inr hn) (by omega) (by omega) Ba Bb h70 h71 hb0 hb1 (fun c hc => ?_)
  have ec : c = min ra rb := by omega
  subst ec
  refine ej_le (min ra rb) 0 (fun z => ?_) (fun z => go)
  rw [show min ra rb = 0 by omega] at go
  exact go
end
section
variable {L n ra da rb db : Int} {cp le pk : Int32} {a1 a2 a3 a4 a5 a6 a7 a8 a9 a10 a11 : Nat → Int32}
/-- a round of feasible that finds the release r -/
theorem ey_f9r {post : Int32 → St2 → Prop} {lo hi : Int} (k : Nat) (ab q r K : Int) (hn : n = 1 ∨ n = 2) (hL : 1 ≤ L ∧ L ≤ 6) (Ba : 0 ≤ ra ∧ ra ≤ 40) (Bb : 0 ≤ rb ∧ rb ≤ 40) (Ca : 0 ≤ da ∧ da ≤ 40) (Cb : 0 ≤ db ∧ db ≤ 40) (h70 : a7 0 = ej_z ra) (h71 : n = 2 → a7 1 = ej_z rb) (h80 : a8 0 = ej_z da) (h81 : n = 2 → a8 1 = ej_z db) (Bab : 0 ≤ ab ∧ ab ≤ 41) (Bq : 0 ≤ q ∧ q ≤ 7) (Br : 0 ≤ r ∧ r ≤ 40)
    (hr : (r = ra ∧ ra < ab ∧ (n = 1 ∨ ab ≤ rb ∨ rb ≤ ra)) ∨ (r = rb ∧ n = 2 ∧ rb < ab ∧ (ab ≤ ra ∨ ra < rb)))
    (hs : ej_sh a10 0 lo hi) (hl : -100 ≤ lo) (hK : ej_cr n L ra da rb db lo hi r = K)
    (h0 : K < r → post 0 (ej_z L, cp, ej_z n, le, pk, a1, a2, a3, a4, a5, a6, a7, a8, a9, a10, a11)) (h1 : r ≤ K → r + L ≤ K → wX_feasible_2_9 post k (ej_z r) (ej_z (q + 1)) (ej_z L) cp (ej_z n) le pk a1 a2 a3 a4 a5 a6 a7 a8 a9 a10 a11) (h2 : r ≤ K → K < r + L → ∀ b, ej_up a10 b (K - L) r → wX_feasible_2_9 post k (ej_z r) (ej_z (q + 1)) (ej_z L) cp (ej_z n) le pk a1 a2 a3 a4 a5 a6 a7 a8 a9 b a11) :
    wX_feasible_2_9 post (k + 1) (ej_z ab) (ej_z q) (ej_z L) cp (ej_z n) le pk a1 a2 a3 a4 a5 a6 a7 a8 a9 a10 a11 := by
  refine ej_le 8 q (fun z => absurd z (by omega)) (fun _ => ?_)
  refine ej_grb ab hn Bab Ba Bb h70 h71 (fun b hb => ?_)
  have eb : b = r := by omega
  subst eb
  refine ej_le 0 b (fun _ => ?_) (fun z => absurd z (by omega))
  refine ey_sbf b K hn hL Ba Bb Ca Cb h70 h71 h80 h81 Br hs hl hK (fun g => ?_) (fun g g2 => ?_) (fun g g2 c hc => ?_)
  · exact br_t rfl (h0 g)
  · exact br_f (by decide) (nm_r (ej_p1 q) (h1 g g2))
  · exact br_f (by decide) (nm_r (ej_p1 q) (h2 g g2 c hc))
/-- the last round: no release below ab -/
theorem ey_f9z {post : Int32 → St2 → Prop} {m lo hi : Int} (k : Nat) (ab q : Int) (hn : n = 2) (hL : 1 ≤ L ∧ L ≤ 6) (Ba : 0 ≤ ra ∧ ra ≤ 40) (Bb : 0 ≤ rb ∧ rb ≤ 40) (Ca : 0 ≤ da ∧ da ≤ 40) (Cb : 0 ≤ db ∧ db ≤ 40) (h70 : a7 0 = ej_z ra) (h71 : n = 2 → a7 1 = ej_z rb) (h80 : a8 0 = ej_z da) (h81 : n = 2 → a8 1 = ej_z db) (Bab : 0 ≤ ab ∧ ab ≤ ra ∧ ab ≤ rb) (Bq : 0 ≤ q ∧ q ≤ 7)
    (hs : ej_sh a10 m lo hi) (hh : hi ≤ 40) (hm : m ≤ ra ∧ m ≤ rb)
    (h0 : ej_dp L lo hi ra da rb db = -1 → ∀ b, post 0 (ej_z L, cp, ej_z n, le, pk, a1, a2, a3, a4, a5, a6, a7, a8, b, a10, a11)) (h1 : ej_dp L lo hi ra da rb db ≠ -1 → ∀ b, post 1 (ej_z L, cp, ej_z n, ej_z (ej_dp L lo hi ra da rb db), pk, a1, a2, a3, a4, a5, a6, a7, a8, b, a10, a11)) :
    wX_feasible_2_9 post (k + 1) (ej_z ab) (ej_z q) (ej_z L) cp (ej_z n) le pk a1 a2 a3 a4 a5 a6 a7 a8 a9 a10 a11 := by
  refine ej_le 8 q (fun z => absurd z (by omega)) (fun _ => ?_)
  refine ej_grb ab (Or.inr hn) (by omega) Ba Bb h70 h71 (fun b hb => ?_)
  have eb : b = -1 := by omega
  subst eb
  refine ej_le 0 (-1) (fun z => absurd z (by omega)) (fun _ => ?_)
  exact ey_dp2 hn hL Ba Bb Ca Cb h70 h71 h80 h81 hs hh hm (fun g b => ⟨ej_nb0, h0 g b⟩) (fun g b => ⟨ej_nb1, h1 g b⟩)
/-- feasible over two windows -/
theorem ey_fe2 {post : Int32 → St2 → Prop} (hn : n = 2) (hL : 1 ≤ L ∧ L ≤ 6) (Ba : 0 ≤ ra ∧ ra ≤ 40) (Bb : 0 ≤ rb ∧ rb ≤ 40) (Ca : 0 ≤ da ∧ da ≤ 40) (Cb : 0 ≤ db ∧ db ≤ 40) (h70 : a7 0 = ej_z ra) (h71 : n = 2 → a7 1 = ej_z rb) (h80 : a8 0 = ej_z da) (h81 : n = 2 → a8 1 = ej_z db) (h4 : ∀ j, j < 4 → a4 j = 0)
    (hF : ¬ ej_can L ra da rb db → ∀ b c, post 0 (ej_z L, cp, ej_z n, le, pk, a1, a2, a3, a4, a5, a6, a7, a8, b, c, a11))
    (hT : ∀ E, ej_can L ra da rb db → ej_end L ra da rb db E → ∀ b c, post 1 (ej_z L, cp, ej_z n, ej_z E, pk, a1, a2, a3, a4, a5, a6, a7, a8, b, c, a11)) : wpX_feasible_2 post (ej_z L, cp, ej_z n, le, pk, a1, a2, a3, a4, a5, a6, a7, a8, a9, a10, a11) := by
  refine ey_shb h4 (fun b hb => Exists.intro 3 ?_)
  have s0 := ej_sh0 hb 0
  subst hn
  rcases Int.lt_trichotomy ra rb with g | g | g
  · -- the second released later
    have q1 := ej_qA hL Ba Bb Ca Cb g rfl
    have sec : ∀ (lo hi : Int) (c : Nat → Int32), rb + L ≤ db → ((db < rb + 2 * L ∧ lo = db - L - L ∧ hi = rb) ∨ (rb + 2 * L ≤ db ∧ lo = 0 ∧ hi = 0)) → ej_sh c 0 lo hi → wX_feasible_2_9 post 2 (ej_z rb) (ej_z (0 + 1)) (ej_z L) cp (ej_z 2) le pk a1 a2 a3 a4 a5 a6 a7 a8 a9 c a11 := by
      intro lo hi c hb2 hlh hs
      have p := ej_pA hL Ba Bb Ca Cb g rfl hb2 hlh rfl rfl
      refine ey_f9r (lo := lo) (hi := hi) 1 rb (0 + 1) ra _ (Or.inr rfl) hL Ba Bb Ca Cb h70 h71 h80 h81 (by omega) (by omega) Ba (by omega) hs (by omega) rfl (fun k => hF (p.1 k) _ _) (fun k k2 => ?_) (fun k k2 e he => ?_)
      · exact ey_f9z 0 ra _ rfl hL Ba Bb Ca Cb h70 h71 h80 h81 (by omega) (by omega) (ej_shM hs Ba.1) (by omega) (by omega) (fun z b => hF (p.2.1 k z) _ _) (fun z b => hT _ (p.2.2 k z).1 (p.2.2 k z).2 _ _)
      · exact ey_f9z 0 ra _ rfl hL Ba Bb Ca Cb h70 h71 h80 h81 (by omega) (by omega) (ej_shU hs he (Int.le_refl ra)) (by omega) (by omega) (fun z b => hF (p.2.1 k z) _ _) (fun z b => hT _ (p.2.2 k z).1 (p.2.2 k z).2 _ _)
    refine ey_f9r (lo := 0) (hi := 0) 2 41 0 rb _ (Or.inr rfl) hL Ba Bb Ca Cb h70 h71 h80 h81 (by omega) (by omega) Bb (by omega) s0 (by omega) rfl (fun k => hF ?_ _ _) (fun k k2 => ?_) (fun k k2 e he => ?_)
    · have := q1.1 k
      unfold ej_can
      omega
    · have := q1.2 k
      exact sec 0 0 b (by omega) (by omega) s0
    · have e1 := q1.2 k
      rw [e1] at he
      exact sec _ _ e (by omega) (Or.inl ⟨by omega, rfl, rfl⟩) (ej_shN hb he)
  · have p := ej_pE hL Ba Bb Ca Cb g rfl rfl rfl
    refine ey_f9r (lo := 0) (hi := 0) 2 41 0 ra _ (Or.inr rfl) hL Ba Bb Ca Cb h70 h71 h80 h81 (by omega) (by omega) Ba (by omega) s0 (by omega) rfl (fun k => hF (p.1 k) _ _) (fun k k2 => ?_) (fun k k2 e he => ?_)
    · exact ey_f9z 1 ra _ rfl hL Ba Bb Ca Cb h70 h71 h80 h81 (by omega) (by omega) s0 (by omega) (by omega) (fun z b => hF (p.2.1 k z) _ _) (fun z b => hT _ (p.2.2 k z).1 (p.2.2 k z).2 _ _)
    · exact ey_f9z 1 ra _ rfl hL Ba Bb Ca Cb h70 h71 h80 h81 (by omega) (by omega) (ej_shU s0 he (Int.le_refl ra)) (by omega) (by omega) (fun z b => hF (p.2.1 k z) _ _) (fun z b => hT _ (p.2.2 k z).1 (p.2.2 k z).2 _ _)
  · have q1 := ej_qB hL Ba Bb Ca Cb g rfl
    have sec : ∀ (lo hi : Int) (c : Nat → Int32), ra + L ≤ da → ((da < ra + 2 * L ∧ lo = da - L - L ∧ hi = ra) ∨ (ra + 2 * L ≤ da ∧ lo = 0 ∧ hi = 0)) → ej_sh c 0 lo hi → wX_feasible_2_9 post 2 (ej_z ra) (ej_z (0 + 1)) (ej_z L) cp (ej_z 2) le pk a1 a2 a3 a4 a5 a6 a7 a8 a9 c a11 := by
      intro lo hi c hb2 hlh hs
      have p := ej_pB hL Ba Bb Ca Cb g rfl hb2 hlh rfl rfl
      refine ey_f9r (lo := lo) (hi := hi) 1 ra (0 + 1) rb _ (Or.inr rfl) hL Ba Bb Ca Cb h70 h71 h80 h81 (by omega) (by omega) Bb (by omega) hs (by omega) rfl (fun k => hF (p.1 k) _ _) (fun k k2 => ?_) (fun k k2 e he => ?_)
      · exact ey_f9z 0 rb _ rfl hL Ba Bb Ca Cb h70 h71 h80 h81 (by omega) (by omega) (ej_shM hs Bb.1) (by omega) (by omega) (fun z b => hF (p.2.1 k z) _ _) (fun z b => hT _ (p.2.2 k z).1 (p.2.2 k z).2 _ _)
      · exact ey_f9z 0 rb _ rfl hL Ba Bb Ca Cb h70 h71 h80 h81 (by omega) (by omega) (ej_shU hs he (Int.le_refl rb)) (by omega) (by omega) (fun z b => hF (p.2.1 k z) _ _) (fun z b => hT _ (p.2.2 k z).1 (p.2.2 k z).2 _ _)
    refine ey_f9r (lo := 0) (hi := 0) 2 41 0 ra _ (Or.inr rfl) hL Ba Bb Ca Cb h70 h71 h80 h81 (by omega) (by omega) Ba (by omega) s0 (by omega) rfl (fun k => hF ?_ _ _) (fun k k2 => ?_) (fun k k2 e he => ?_)
    · have := q1.1 k
      unfold ej_can
      omega
    · have := q1.2 k
      exact sec 0 0 b (by omega) (by omega) s0
    · have e1 := q1.2 k
      rw [e1] at he
      exact sec _ _ e (by omega) (Or.inl ⟨by omega, rfl, rfl⟩) (ej_shN hb he)
end
section
variable {L : Int} {cp le pk nn x1 x2 : Int32} {a1 a2 a3 a4 a5 a6 a7 a8 a9 a10 a11 : Nat → Int32}
theorem ey_ask0 {post : St2 → Prop} {x y : Int32} (r d : Int) (hx : x = ej_z r) (hy : y = ej_z d) (Br : -128 ≤ r ∧ r ≤ 127) (Bd : -128 ≤ d ∧ d ≤ 127) (hp : ∀ b c : Nat → Int32, b 0 = ej_z r → c 0 = ej_z d → post (ej_z L, cp, ej_z 1, le, pk, a1, a2, a3, a4, a5, a6, b, c, a9, a10, a11)) : wpX_ask_2 post (ej_z L, cp, 0, le, pk, a1, a2, a3, a4, a5, a6, a7, a8, a9, a10, a11) x y := by
  subst hx hy
  exact ej_le 8 0 (fun z => absurd z (by omega)) (fun _ => ⟨ej_i0, nm_e ⟨ej_i0, nm_e (nm_r ej_01 (hp _ _ (ej_us (k := 0) (ej_byte Br)) (ej_us (k := 0) (ej_byte Bd))))⟩⟩)
theorem ey_ask1 {post : St2 → Prop} {x y : Int32} (r d : Int) (hx : x = ej_z r) (hy : y = ej_z d) (Br : -128 ≤ r ∧ r ≤ 127) (Bd : -128 ≤ d ∧ d ≤ 127) (hp : ∀ b c : Nat → Int32, b 0 = a7 0 → b 1 = ej_z r → c 0 = a8 0 → c 1 = ej_z d → post (ej_z L, cp, ej_z 2, le, pk, a1, a2, a3, a4, a5, a6, b, c, a9, a10, a11)) : wpX_ask_2 post (ej_z L, cp, ej_z 1, le, pk, a1, a2, a3, a4, a5, a6, a7, a8, a9, a10, a11) x y := by
  subst hx hy
  exact ej_le 8 1 (fun z => absurd z (by omega)) (fun _ => ⟨ej_i1, nm_e ⟨ej_i1, nm_e (nm_r ej_11 (hp _ _ (ej_un (k := 1) (by decide) rfl) (ej_us (k := 1) (ej_byte Br)) (ej_un (k := 1) (by decide) rfl) (ej_us (k := 1) (ej_byte Bd))))⟩⟩)
theorem ey_stop {post : St2 → Prop} {k : Nat} (hp : post (ej_z L, 2, nn, le, pk, a1, a2, a3, a4, a5, a6, a7, a8, a9, a10, a11)) : wX_askPinned_2_7 post x1 x2 (k + 1) 2 (ej_z L) 2 nn le pk a1 a2 a3 a4 a5 a6 a7 a8 a9 a10 a11 := ej_le 2 2 (fun _ => hp) (fun z => absurd z (by omega))
theorem ey_skip {post : St2 → Prop} {k : Nat} {i i' : Int32} (hi : vp_in i 8) (hc : ¬ cp ≤ i) (e : i + 1 = i') (h : a1 i.toNatClampNeg = 0 ∨ (¬ a1 i.toNatClampNeg = 0 ∧ i = x1)) (hw : wX_askPinned_2_7 post x1 x2 k i' (ej_z L) cp nn le pk a1 a2 a3 a4 a5 a6 a7 a8 a9 a10 a11) : wX_askPinned_2_7 post x1 x2 (k + 1) i (ej_z L) cp nn le pk a1 a2 a3 a4 a5 a6 a7 a8 a9 a10 a11 :=
  br_f hc ⟨hi, by
    rcases h with h | h
    · exact br_t h (nm_r e hw)
    · exact br_f h.1 (br_t h.2 (nm_r e hw))⟩
theorem ey_take0 {post : St2 → Prop} {k : Nat} {i i' : Int32} (r d : Int) (hi : vp_in i 8) (hc : ¬ cp ≤ i) (e : i + 1 = i') (hu : ¬ a1 i.toNatClampNeg = 0) (hx : ¬ i = x1) (hq : x2 ≤ i) (h2 : a2 i.toNatClampNeg = ej_z r) (h3 : a3 i.toNatClampNeg = ej_z d) (Br : -128 ≤ r ∧ r ≤ 127) (Bd : -128 ≤ d ∧ d ≤ 127)
    (hw : ∀ b c : Nat → Int32, b 0 = ej_z r → c 0 = ej_z d → wX_askPinned_2_7 post x1 x2 k i' (ej_z L) cp (ej_z 1) le pk a1 a2 a3 a4 a5 a6 b c a9 a10 a11) : wX_askPinned_2_7 post x1 x2 (k + 1) i (ej_z L) cp 0 le pk a1 a2 a3 a4 a5 a6 a7 a8 a9 a10 a11 := by
  refine br_f hc ⟨hi, br_f hu (br_f hx (br_t hq (br_t rfl ⟨hi, br_t rfl ⟨hi, ?_⟩⟩)))⟩
  exact ey_ask0 r d h2 h3 Br Bd (fun b c hb hcc => nm_r e (hw b c hb hcc))
theorem ey_pin0 {post : St2 → Prop} {k : Nat} {i i' : Int32} (p : Int) (hi : vp_in i 8) (hc : ¬ cp ≤ i) (e : i + 1 = i') (hu : ¬ a1 i.toNatClampNeg = 0) (hx : ¬ i = x1) (hq : ¬ x2 ≤ i) (h2 : a11 i.toNatClampNeg = ej_z p) (Br : 0 ≤ p ∧ p ≤ 40) (hL : 1 ≤ L ∧ L ≤ 6)
    (hw : ∀ b c : Nat → Int32, b 0 = ej_z p → c 0 = ej_z (p + L) → wX_askPinned_2_7 post x1 x2 k i' (ej_z L) cp (ej_z 1) le pk a1 a2 a3 a4 a5 a6 b c a9 a10 a11) : wX_askPinned_2_7 post x1 x2 (k + 1) i (ej_z L) cp 0 le pk a1 a2 a3 a4 a5 a6 a7 a8 a9 a10 a11 := by
  refine br_f hc ⟨hi, br_f hu (br_f hx (br_f hq (br_f (by decide) ⟨hi, br_f (by decide) ⟨hi, ?_⟩⟩)))⟩
  exact ey_ask0 p (p + L) h2 (by rw [h2, ej_add]) (by omega) (by omega) (fun b c hb hcc => nm_r e (hw b c hb hcc))
/-- both are there, the second is asked about -/
theorem ey_ap1 {post : St2 → Prop} {r1 d1 : Int} (u0 : a1 0 = 1) (u1 : a1 1 = 1) (B1 : 0 ≤ r1 ∧ r1 ≤ 40) (D1 : 0 ≤ d1 ∧ d1 ≤ 40) (h21 : a2 1 = ej_z r1) (h31 : a3 1 = ej_z d1) (hp : ∀ b c : Nat → Int32, b 0 = ej_z r1 → c 0 = ej_z d1 → post (ej_z L, 2, ej_z 1, le, pk, a1, a2, a3, a4, a5, a6, b, c, a9, a10, a11)) : wpX_askPinned_2 post (ej_z L, 2, nn, le, pk, a1, a2, a3, a4, a5, a6, a7, a8, a9, a10, a11) 0 0 :=
  Exists.intro 3 (ey_skip ej_i0 (by decide) ej_01 (Or.inr ⟨fun z => absurd (u0.symm.trans z) (by decide), rfl⟩) (ey_take0 r1 d1 ej_i1 (by decide) ej_11 (fun z => absurd (u1.symm.trans z) (by decide)) (by decide) (by decide) h21 h31 (by omega) (by omega) (fun b c hb hc => ey_stop (hp b c hb hc))))
/-- both are there, the first is asked about, held to its plan -/
theorem ey_apP {post : St2 → Prop} {p : Int} (u0 : a1 0 = 1) (u1 : a1 1 = 1) (Br : 0 ≤ p ∧ p ≤ 40) (hL : 1 ≤ L ∧ L ≤ 6) (h2 : a11 0 = ej_z p) (hp : ∀ b c : Nat → Int32, b 0 = ej_z p → c 0 = ej_z (p + L) → post (ej_z L, 2, ej_z 1, le, pk, a1, a2, a3, a4, a5, a6, b, c, a9, a10, a11)) : wpX_askPinned_2 post (ej_z L, 2, nn, le, pk, a1, a2, a3, a4, a5, a6, a7, a8, a9, a10, a11) 1 1 :=
  Exists.intro 3 (ey_pin0 p ej_i0 (by decide) ej_01 (fun z => absurd (u0.symm.trans z) (by decide)) (by decide) (by decide) h2 Br hL (fun b c hb hc => ey_skip ej_i1 (by decide) ej_11 (Or.inr ⟨fun z => absurd (u1.symm.trans z) (by decide), rfl⟩) (ey_stop (hp b c hb hc))))
end
section
variable {L r0 d0 r1 d1 : Int} {cp le pk nn : Int32} {a1 a2 a3 a4 a5 a6 a7 a8 a9 a10 a11 : Nat → Int32}
/-- the earliest start of the first job: the search -/
theorem ey_eoA {post : Int32 → St2 → Prop} (ans : Int) (hL : 1 ≤ L ∧ L ≤ 6) (u0 : a1 0 = 1) (u1 : a1 1 = 1) (B0 : 0 ≤ r0 ∧ r0 ≤ 40) (D0 : 0 ≤ d0 ∧ d0 ≤ 40) (h20 : a2 0 = ej_z r0) (h30 : a3 0 = ej_z d0) (B1 : 0 ≤ r1 ∧ r1 ≤ 40) (D1 : 0 ≤ d1 ∧ d1 ≤ 40) (h21 : a2 1 = ej_z r1) (h31 : a3 1 = ej_z d1) (h4 : ∀ j, j < 4 → a4 j = 0) (hA : ∀ m, r0 ≤ m → m + L ≤ d0 → (ej_can L r1 d1 r0 (m + L) ↔ ans ≤ m))
    (hp : ∀ (nn l : Int32) (b7 b8 b9 b10 : Nat → Int32), post (ej_z ans) (ej_z L, 2, nn, l, pk, a1, a2, a3, a4, a5, a6, b7, b8, b9, b10, a11)) :
    ∀ (k : Nat) (lo hi q : Int) (nn l : Int32) (b7 b8 b9 b10 : Nat → Int32), q + (k : Int) = 8 → 0 ≤ q → hi - lo < 2 ^ k → r0 ≤ lo → lo ≤ ans → ans ≤ hi → hi + L ≤ d0 → wX_earliestOf_2_23 post 0 0 (k + 1) (ej_z lo) (ej_z hi) (ej_z q) (ej_z L) 2 nn l pk a1 a2 a3 a4 a5 a6 b7 b8 b9 b10 a11 := by
  intro k
  induction k with
  | zero =>
    intro lo hi q nn l b7 b8 b9 b10 hq hq0 hg g1 g2 g3 g4
    have e : lo = ans := by omega
    subst e
    exact ej_le 8 q (fun _ => hp nn l b7 b8 b9 b10) (fun z => absurd z (by omega))
  | succ k ih =>
    intro lo hi q nn l b7 b8 b9 b10 hq hq0 hg g1 g2 g3 g4
    have hg' : hi - lo < 2 * 2 ^ k := by rw [Int.pow_succ] at hg; omega
    refine ej_le 8 q (fun z => absurd z (by omega)) (fun _ => ej_le hi lo (fun z => ?_) (fun z => ?_))
    · have e : lo = ans := by omega
      subst e
      exact hp nn l b7 b8 b9 b10
    · obtain ⟨m, em⟩ : ∃ m, m = (lo + hi) / 2 := ⟨_, rfl⟩
      refine nm_r (e' := ej_z m) (by rw [ej_add, ej_shr (by omega), em]) ?_
      refine ey_ap1 (nn := nn) u0 u1 B1 D1 h21 h31 (fun b c hb hc => And.intro ej_i0 ?_)
      refine ey_ask1 r0 (m + L) h20 (ej_add m L) (by omega) (by omega) (fun b' c' e1 e2 e3 e4 => ?_)
      have hm := hA m (by omega) (by omega)
      refine ey_fe2 (ra := r1) (da := d1) (rb := r0) (db := m + L) rfl hL B1 B0 D1 (by omega) (e1.trans hb) (fun _ => e2) (e3.trans hc) (fun _ => e4) h4 (fun g b c => ?_) (fun E g _ b c => ?_)
      · have : ¬ ans ≤ m := fun z => g (hm.mpr z)
        exact br_t rfl (nm_r (ej_p1 m) (nm_r (ej_p1 q) (ih (m + 1) hi (q + 1) _ _ _ _ _ _ (by omega) (by omega) (by omega) (by omega) (by omega) g3 g4)))
      · have := hm.mp g
        exact br_f (by decide) (nm_r (ej_p1 q) (ih lo m (q + 1) _ _ _ _ _ _ (by omega) (by omega) (by omega) g1 g2 this (by omega)))
end
end
section
section
variable {L r0 d0 r1 d1 : Int} {cp le pk nn : Int32} {a1 a2 a3 a4 a5 a6 a7 a8 a9 a10 a11 : Nat → Int32}
/-- the earliest start of the second job, the first held to its plan: the search -/
theorem ey_eoP {post : Int32 → St2 → Prop} {p : Int} (ans : Int) (hL : 1 ≤ L ∧ L ≤ 6) (u0 : a1 0 = 1) (u1 : a1 1 = 1) (B0 : 0 ≤ r0 ∧ r0 ≤ 40) (D0 : 0 ≤ d0 ∧ d0 ≤ 40) (h20 : a2 0 = ej_z r0) (h30 : a3 0 = ej_z d0) (B1 : 0 ≤ r1 ∧ r1 ≤ 40) (D1 : 0 ≤ d1 ∧ d1 ≤ 40) (h21 : a2 1 = ej_z r1) (h31 : a3 1 = ej_z d1) (h4 : ∀ j, j < 4 → a4 j = 0) (Bp : 0 ≤ p ∧ p + L ≤ 40) (hP : a11 0 = ej_z p) (hA : ∀ m, r1 ≤ m → m + L ≤ d1 → (ej_can L p (p + L) r1 (m + L) ↔ ans ≤ m))
    (hp : ∀ (nn l : Int32) (b7 b8 b9 b10 : Nat → Int32), post (ej_z ans) (ej_z L, 2, nn, l, pk, a1, a2, a3, a4, a5, a6, b7, b8, b9, b10, a11)) :
    ∀ (k : Nat) (lo hi q : Int) (nn l : Int32) (b7 b8 b9 b10 : Nat → Int32), q + (k : Int) = 8 → 0 ≤ q → hi - lo < 2 ^ k → r1 ≤ lo → lo ≤ ans → ans ≤ hi → hi + L ≤ d1 → wX_earliestOf_2_23 post 1 1 (k + 1) (ej_z lo) (ej_z hi) (ej_z q) (ej_z L) 2 nn l pk a1 a2 a3 a4 a5 a6 b7 b8 b9 b10 a11 := by
  intro k
  induction k with
  | zero =>
    intro lo hi q nn l b7 b8 b9 b10 hq hq0 hg g1 g2 g3 g4
    have e : lo = ans := by omega
    subst e
    exact ej_le 8 q (fun _ => hp nn l b7 b8 b9 b10) (fun z => absurd z (by omega))
  | succ k ih =>
    intro lo hi q nn l b7 b8 b9 b10 hq hq0 hg g1 g2 g3 g4
    have hg' : hi - lo < 2 * 2 ^ k := by rw [Int.pow_succ] at hg; omega
    refine ej_le 8 q (fun z => absurd z (by omega)) (fun _ => ej_le hi lo (fun z => ?_) (fun z => ?_))
    · have e : lo = ans := by omega
      subst e
      exact hp nn l b7 b8 b9 b10
    · obtain ⟨m, em⟩ : ∃ m, m = (lo + hi) / 2 := ⟨_, rfl⟩
      refine nm_r (e' := ej_z m) (by rw [ej_add, ej_shr (by omega), em]) ?_
      refine ey_apP (nn := nn) u0 u1 (by omega) hL hP (fun b c hb hc => And.intro ej_i1 ?_)
      refine ey_ask1 r1 (m + L) h21 (ej_add m L) (by omega) (by omega) (fun b' c' e1 e2 e3 e4 => ?_)
      have hm := hA m (by omega) (by omega)
      refine ey_fe2 (ra := p) (da := p + L) (rb := r1) (db := m + L) rfl hL (by omega) B1 (by omega) (by omega) (e1.trans hb) (fun _ => e2) (e3.trans hc) (fun _ => e4) h4 (fun g b c => ?_) (fun E g _ b c => ?_)
      · have : ¬ ans ≤ m := fun z => g (hm.mpr z)
        exact br_t rfl (nm_r (ej_p1 m) (nm_r (ej_p1 q) (ih (m + 1) hi (q + 1) _ _ _ _ _ _ (by omega) (by omega) (by omega) (by omega) (by omega) g3 g4)))
      · have := hm.mp g
        exact br_f (by decide) (nm_r (ej_p1 q) (ih lo m (q + 1) _ _ _ _ _ _ (by omega) (by omega) (by omega) g1 g2 this (by omega)))
theorem ej_28 {x : Int} (h : x ≤ 40) : x < 2 ^ 8 := by omega
/-- holds: both are there -/
theorem ej_hol0 {post : Int32 → Prop} (u0 : a1 0 = 1) (hp : post 1) : wpX_holds post (ej_z L, 2, nn, le, pk, a1, a2, a3, a4, a5, a6, a7, a8, a9, a10, a11) 0 :=
  br_f (by decide) (br_f (by decide) ⟨ej_i0, br_f (fun z => absurd (u0.symm.trans z) (by decide)) hp⟩)
theorem ej_hol1 {post : Int32 → Prop} (u1 : a1 1 = 1) (hp : post 1) : wpX_holds post (ej_z L, 2, nn, le, pk, a1, a2, a3, a4, a5, a6, a7, a8, a9, a10, a11) 1 :=
  br_f (by decide) (br_f (by decide) ⟨ej_i1, br_f (fun z => absurd (u1.symm.trans z) (by decide)) hp⟩)
theorem ej_esW {post : Int32 → St2 → Prop} (ans : Int) (hL : 1 ≤ L ∧ L ≤ 6) (u0 : a1 0 = 1) (u1 : a1 1 = 1) (B0 : 0 ≤ r0 ∧ r0 ≤ 40) (D0 : 0 ≤ d0 ∧ d0 ≤ 40) (h20 : a2 0 = ej_z r0) (h30 : a3 0 = ej_z d0) (B1 : 0 ≤ r1 ∧ r1 ≤ 40) (D1 : 0 ≤ d1 ∧ d1 ≤ 40) (h21 : a2 1 = ej_z r1) (h31 : a3 1 = ej_z d1) (h4 : ∀ j, j < 4 → a4 j = 0) (q1 : r0 + L ≤ d0) (qa : r0 ≤ ans ∧ ans + L ≤ d0) (hA : ∀ m, r0 ≤ m → m + L ≤ d0 → (ej_can L r1 d1 r0 (m + L) ↔ ans ≤ m))
    (hp : ∀ (nn l : Int32) (b7 b8 b9 b10 : Nat → Int32), post (ej_z ans) (ej_z L, 2, nn, l, pk, a1, a2, a3, a4, a5, a6, b7, b8, b9, b10, a11)) : wpX_earliestStart post (ej_z L, 2, nn, le, pk, a1, a2, a3, a4, a5, a6, a7, a8, a9, a10, a11) 0 := by
  unfold wpX_earliestStart
  dsimp only
  refine ej_hol0 (nn := nn) u0 ?_
  refine br_f (by decide) ?_
  refine And.intro ej_i0 (nm_r h20 (And.intro ej_i0 (nm_r (e' := ej_z (d0 - L)) (by rw [← ej_sub]; exact congrArg (· - ej_z L) h30) (Exists.intro 9 ?_))))
  exact ej_eoA ans hL u0 u1 B0 D0 h20 h30 B1 D1 h21 h31 h4 hA hp 8 r0 (d0 - L) 0 _ _ _ _ _ _ (by omega) (by omega) (ej_28 (by omega)) (by omega) (by omega) (by omega) (by omega)
theorem ej_lsW {post : Int32 → St2 → Prop} (ans : Int) (hL : 1 ≤ L ∧ L ≤ 6) (u0 : a1 0 = 1) (u1 : a1 1 = 1) (B0 : 0 ≤ r0 ∧ r0 ≤ 40) (D0 : 0 ≤ d0 ∧ d0 ≤ 40) (h20 : a2 0 = ej_z r0) (h30 : a3 0 = ej_z d0) (B1 : 0 ≤ r1 ∧ r1 ≤ 40) (D1 : 0 ≤ d1 ∧ d1 ≤ 40) (h21 : a2 1 = ej_z r1) (h31 : a3 1 = ej_z d1) (h4 : ∀ j, j < 4 → a4 j = 0) (q1 : r0 + L ≤ d0) (qa : r0 ≤ ans ∧ ans + L ≤ d0) (hA : ∀ m, r0 ≤ m → m + L ≤ d0 → (ej_can L r1 d1 m d0 ↔ m ≤ ans))
    (hp : ∀ (nn l : Int32) (b7 b8 b9 b10 : Nat → Int32), post (ej_z ans) (ej_z L, 2, nn, l, pk, a1, a2, a3, a4, a5, a6, b7, b8, b9, b10, a11)) : wpX_latestStart post (ej_z L, 2, nn, le, pk, a1, a2, a3, a4, a5, a6, a7, a8, a9, a10, a11) 0 := by
  unfold wpX_latestStart
  dsimp only
  refine ej_hol0 (nn := nn) u0 ?_
  refine br_f (by decide) ?_
  refine And.intro ej_i0 (nm_r h20 (And.intro ej_i0 (nm_r (e' := ej_z (d0 - L)) (by rw [← ej_sub]; exact congrArg (· - ej_z L) h30) (Exists.intro 9 ?_))))
  exact ej_lsA ans hL u0 u1 B0 D0 h20 h30 B1 D1 h21 h31 h4 hA hp 8 r0 (d0 - L) 0 _ _ _ _ _ _ (by omega) (by omega) (ej_28 (by omega)) (by omega) (by omega) (by omega) (by omega)
theorem ej_lbW {post : Int32 → St2 → Prop} (ans : Int) (hL : 1 ≤ L ∧ L ≤ 6) (u0 : a1 0 = 1) (u1 : a1 1 = 1) (B0 : 0 ≤ r0 ∧ r0 ≤ 40) (D0 : 0 ≤ d0 ∧ d0 ≤ 40) (h20 : a2 0 = ej_z r0) (h30 : a3 0 = ej_z d0) (B1 : 0 ≤ r1 ∧ r1 ≤ 40) (D1 : 0 ≤ d1 ∧ d1 ≤ 40) (h21 : a2 1 = ej_z r1) (h31 : a3 1 = ej_z d1) (h4 : ∀ j, j < 4 → a4 j = 0) (qa : 0 ≤ ans ∧ ans ≤ 40) (hA : ∀ m, 0 ≤ m → m ≤ 40 → (ej_can L (max r0 m) d0 (max r1 m) d1 ↔ m ≤ ans))
    (hp : ∀ (nn l : Int32) (b7 b8 b9 b10 : Nat → Int32), post (ej_z ans) (ej_z L, 2, nn, l, pk, a1, a2, a3, a4, a5, a6, b7, b8, b9, b10, a11)) : wpX_latestBegin post (ej_z L, 2, nn, le, pk, a1, a2, a3, a4, a5, a6, a7, a8, a9, a10, a11) :=
  Exists.intro 9 (ej_lbA ans hL u0 u1 B0 D0 h20 h30 B1 D1 h21 h31 h4 hA hp 8 0 40 0 _ _ _ _ _ _ (by omega) (by omega) (by omega) (by omega) (by omega) (by omega) (by omega))
theorem ej_eeW {post : Int32 → St2 → Prop} (hL : 1 ≤ L ∧ L ≤ 6) (u0 : a1 0 = 1) (u1 : a1 1 = 1) (B0 : 0 ≤ r0 ∧ r0 ≤ 40) (D0 : 0 ≤ d0 ∧ d0 ≤ 40) (h20 : a2 0 = ej_z r0) (h30 : a3 0 = ej_z d0) (B1 : 0 ≤ r1 ∧ r1 ≤ 40) (D1 : 0 ≤ d1 ∧ d1 ≤ 40) (h21 : a2 1 = ej_z r1) (h31 : a3 1 = ej_z d1) (h4 : ∀ j, j < 4 → a4 j = 0) (hc : ej_can L r0 d0 r1 d1)
    (hp : ∀ (E : Int) (nn : Int32) (b7 b8 b9 b10 : Nat → Int32), ej_end L r0 d0 r1 d1 E → post (ej_z E) (ej_z L, 2, nn, ej_z E, pk, a1, a2, a3, a4, a5, a6, b7, b8, b9, b10, a11)) : wpX_earliestEnd post (ej_z L, 2, nn, le, pk, a1, a2, a3, a4, a5, a6, a7, a8, a9, a10, a11) := by
  refine ej_apB (nn := nn) u0 u1 B0 D0 h20 h30 B1 D1 h21 h31 (fun b c e1 e2 e3 e4 => ?_)
  exact ej_fe2 (ra := r0) (da := d0) (rb := r1) (db := d1) rfl hL B0 B1 D0 D1 e1 (fun _ => e2) e3 (fun _ => e4) h4 (fun g b c => absurd hc g) (fun E g he b c => hp E _ _ _ _ _ he)
/-- the plan is made: the first at p, the second at s -/
theorem ej_mpW {post : St2 → Prop} (p s : Int) (hL : 1 ≤ L ∧ L ≤ 6) (u0 : a1 0 = 1) (u1 : a1 1 = 1) (B0 : 0 ≤ r0 ∧ r0 ≤ 40) (D0 : 0 ≤ d0 ∧ d0 ≤ 40) (h20 : a2 0 = ej_z r0) (h30 : a3 0 = ej_z d0) (B1 : 0 ≤ r1 ∧ r1 ≤ 40) (D1 : 0 ≤ d1 ∧ d1 ≤ 40) (h21 : a2 1 = ej_z r1) (h31 : a3 1 = ej_z d1) (h4 : ∀ j, j < 4 → a4 j = 0) (q1 : r0 + L ≤ d0) (q2 : r1 + L ≤ d1) (Qp : r0 ≤ p ∧ p + L ≤ d0) (Qs : r1 ≤ s ∧ s + L ≤ d1) (hA : ∀ m, r0 ≤ m → m + L ≤ d0 → (ej_can L r1 d1 r0 (m + L) ↔ p ≤ m)) (hB : ∀ m, r1 ≤ m → m + L ≤ d1 → (ej_can L p (p + L) r1 (m + L) ↔ s ≤ m))
    (hp : ∀ (nn l : Int32) (b7 b8 b9 b10 b11 : Nat → Int32), b11 0 = ej_z p → b11 1 = ej_z s → post (ej_z L, 2, nn, l, 1, a1, a2, a3, a4, a5, a6, b7, b8, b9, b10, b11)) : wpX_makePlan post (ej_z L, 2, nn, le, pk, a1, a2, a3, a4, a5, a6, a7, a8, a9, a10, a11) := by
  have k2 : ∀ (nn l : Int32) (b7 b8 b9 b10 b11 : Nat → Int32), b11 0 = ej_z p → b11 1 = ej_z s → wX_makePlan_7 post 1 2 (ej_z L) 2 nn l 1 a1 a2 a3 a4 a5 a6 b7 b8 b9 b10 b11 := fun nn l b7 b8 b9 b10 b11 e0 e1 => ej_le 2 2 (fun _ => hp nn l b7 b8 b9 b10 b11 e0 e1) (fun z => absurd z (by omega))
  have k1 : ∀ (nn l : Int32) (b7 b8 b9 b10 b11 : Nat → Int32), b11 0 = ej_z p → wX_makePlan_7 post 2 1 (ej_z L) 2 nn l 1 a1 a2 a3 a4 a5 a6 b7 b8 b9 b10 b11 := by
    intro nn l b7 b8 b9 b10 b11 e0
    refine br_f (by decide) (And.intro ej_i1 (br_f (fun z => absurd (u1.symm.trans z) (by decide)) ?_))
    refine And.intro ej_i1 (nm_r h21 (And.intro ej_i1 (nm_r (e' := ej_z (d1 - L)) (by rw [← ej_sub]; exact congrArg (· - ej_z L) h31) (Exists.intro 9 ?_))))
    refine ey_eoP s hL u0 u1 B0 D0 h20 h30 B1 D1 h21 h31 h4 (by omega) e0 hB (fun nn l b7 b8 b9 b10 => ?_) 8 r1 (d1 - L) 0 _ _ _ _ _ _ (by omega) (by omega) (ej_28 (by omega)) (by omega) (by omega) (by omega) (by omega)
    exact And.intro ej_i1 (nm_e (nm_r ej_11 (k2 _ _ _ _ _ _ _ (ej_un (k := 1) (by decide) e0) (ej_us (k := 1) (ej_byte (by omega))))))
  refine Exists.intro 3 (br_f (by decide) (And.intro ej_i0 (br_f (fun z => absurd (u0.symm.trans z) (by decide)) ?_)))
  refine And.intro ej_i0 (nm_r h20 (And.intro ej_i0 (nm_r (e' := ej_z (d0 - L)) (by rw [← ej_sub]; exact congrArg (· - ej_z L) h30) (Exists.intro 9 ?_))))
  refine ey_eoA p hL u0 u1 B0 D0 h20 h30 B1 D1 h21 h31 h4 hA (fun nn l b7 b8 b9 b10 => ?_) 8 r0 (d0 - L) 0 _ _ _ _ _ _ (by omega) (by omega) (ej_28 (by omega)) (by omega) (by omega) (by omega) (by omega)
  exact And.intro ej_i0 (nm_e (nm_r ej_01 (k1 _ _ _ _ _ _ _ (ej_us (k := 0) (ej_byte (by omega))))))
theorem ej_ps0 {post : Int32 → St2 → Prop} (p s : Int) (hL : 1 ≤ L ∧ L ≤ 6) (u0 : a1 0 = 1) (u1 : a1 1 = 1) (B0 : 0 ≤ r0 ∧ r0 ≤ 40) (D0 : 0 ≤ d0 ∧ d0 ≤ 40) (h20 : a2 0 = ej_z r0) (h30 : a3 0 = ej_z d0) (B1 : 0 ≤ r1 ∧ r1 ≤ 40) (D1 : 0 ≤ d1 ∧ d1 ≤ 40) (h21 : a2 1 = ej_z r1) (h31 : a3 1 = ej_z d1) (h4 : ∀ j, j < 4 → a4 j = 0) (q1 : r0 + L ≤ d0) (q2 : r1 + L ≤ d1) (Qp : r0 ≤ p ∧ p + L ≤ d0) (Qs : r1 ≤ s ∧ s + L ≤ d1) (hA : ∀ m, r0 ≤ m → m + L ≤ d0 → (ej_can L r1 d1 r0 (m + L) ↔ p ≤ m)) (hB : ∀ m, r1 ≤ m → m + L ≤ d1 → (ej_can L p (p + L) r1 (m + L) ↔ s ≤ m))
    (hp : ∀ (nn l : Int32) (b7 b8 b9 b10 b11 : Nat → Int32), b11 0 = ej_z p → b11 1 = ej_z s → post (ej_z p) (ej_z L, 2, nn, l, 1, a1, a2, a3, a4, a5, a6, b7, b8, b9, b10, b11)) : wpX_plannedStart post (ej_z L, 2, nn, le, 0, a1, a2, a3, a4, a5, a6, a7, a8, a9, a10, a11) 0 := by
  unfold wpX_plannedStart
  dsimp only
  refine ej_hol0 (nn := nn) u0 ?_
  refine br_f (by decide) (br_t rfl ?_)
  refine ej_mpW p s hL u0 u1 B0 D0 h20 h30 B1 D1 h21 h31 h4 q1 q2 Qp Qs hA hB (fun nn l b7 b8 b9 b10 b11 e0 e1 => And.intro ej_i0 ?_)
  have h := hp nn l b7 b8 b9 b10 b11 e0 e1
  rw [← e0] at h
  exact h
theorem ej_ps1 {post : Int32 → St2 → Prop} {s : Int} (u1 : a1 1 = 1) (e1 : a11 1 = ej_z s) (hp : post (ej_z s) (ej_z L, 2, nn, le, 1, a1, a2, a3, a4, a5, a6, a7, a8, a9, a10, a11)) : wpX_plannedStart post (ej_z L, 2, nn, le, 1, a1, a2, a3, a4, a5, a6, a7, a8, a9, a10, a11) 1 := by
  unfold wpX_plannedStart
  dsimp only
  refine ej_hol1 (nn := nn) u1 ?_
  refine br_f (by decide) (br_f (by decide) (And.intro ej_i1 ?_))
  rw [← e1] at hp
  exact hp
end
end
section
section
variable {L r0 d0 r1 d1 : Int} {cp le pk nn : Int32} {a1 a2 a3 a4 a5 a6 a7 a8 a9 a10 a11 : Nat → Int32}
/-- a window that is taken -/
def ej_wok (r d l : Int32) : Prop := ¬ r < 0 ∧ ¬ 40 < d ∧ ¬ 40 < r ∧ ¬ d < 0 ∧ ¬ d - r < l
theorem ej_wiW {post : Int32 → Prop} (r d : Int32) (h1 : ej_wok r d (ej_z L) → post 1) (h0 : ¬ ej_wok r d (ej_z L) → post 0) : wpX_windowOk post (ej_z L, cp, nn, le, pk, a1, a2, a3, a4, a5, a6, a7, a8, a9, a10, a11) r d :=
  br_c (fun z => h0 (fun w => w.1 z)) (fun z1 => br_c (fun z => h0 (fun w => w.2.1 z)) (fun z2 => br_c (fun z => h0 (fun w => w.2.2.1 z)) (fun z3 => br_c (fun z => h0 (fun w => w.2.2.2.1 z)) (fun z4 => br_c (fun z => h0 (fun w => w.2.2.2.2 z)) (fun z5 => h1 ⟨z1, z2, z3, z4, z5⟩)))))
theorem ej_wiL {post : Int32 → Prop} (r d l : Int32) (h1 : ej_wok r d l → post 1) (h0 : ¬ ej_wok r d l → post 0) : wpL_window post () r d l :=
  br_c (fun z => h0 (fun w => w.1 z)) (fun z1 => br_c (fun z => h0 (fun w => w.2.2.1 z)) (fun z3 => br_c (fun z => h0 (fun w => w.2.2.2.1 z)) (fun z4 => br_c (fun z => h0 (fun w => w.2.1 z)) (fun z2 => br_c (fun z => h0 (fun w => w.2.2.2.2 z)) (fun z5 => h1 ⟨z1, z2, z3, z4, z5⟩)))))
theorem ej_wokE {r d : Int32} (hL : 1 ≤ L ∧ L ≤ 6) (h : ej_wok r d (ej_z L)) : ∃ a b : Int, (0 ≤ a ∧ a ≤ 40) ∧ (0 ≤ b ∧ b ≤ 40) ∧ a + L ≤ b ∧ r = ej_z a ∧ d = ej_z b := by
  obtain ⟨z1, z2, z3, z4, z5⟩ := h
  have e0 : (0 : Int32).toInt = 0 := by decide
  have e40 : (40 : Int32).toInt = 40 := by decide
  rw [Int32.lt_iff_toInt_lt, e0] at z1 z4
  rw [Int32.lt_iff_toInt_lt, e40] at z2 z3
  obtain ⟨a, ha, ha', rfl⟩ := ej_of (x := r) (a := 0) (b := 40) (by omega) (by omega)
  obtain ⟨b, hb, hb', rfl⟩ := ej_of (x := d) (a := 0) (b := 40) (by omega) (by omega)
  rw [ej_sub, ej_ltI (by omega) (by omega)] at z5
  exact ⟨a, b, ⟨ha, ha'⟩, ⟨hb, hb'⟩, by omega, rfl, rfl⟩
theorem ej_ofN {post : Int32 → St2 → Prop} {r d : Int32} (h : ¬ ej_wok r d (ej_z L)) (hp : post (-1) (ej_z L, cp, nn, le, pk, a1, a2, a3, a4, a5, a6, a7, a8, a9, a10, a11)) : wpX_offer post (ej_z L, cp, nn, le, pk, a1, a2, a3, a4, a5, a6, a7, a8, a9, a10, a11) r d := by
  unfold wpX_offer
  dsimp only
  unfold wpX_probe
  dsimp only
  refine ej_wiW r d (fun z => absurd z h) (fun _ => br_t rfl ?_)
  exact br_t (by decide) hp
theorem ej_of0 {post : Int32 → St2 → Prop} (hL : 1 ≤ L ∧ L ≤ 6) (u0 : a1 0 = 0) (u1 : a1 1 = 0) (h4 : ∀ j, j < 4 → a4 j = 0) (B0 : 0 ≤ r0 ∧ r0 ≤ 40) (D0 : 0 ≤ d0 ∧ d0 ≤ 40) (q : r0 + L ≤ d0) (hw : ej_wok (ej_z r0) (ej_z d0) (ej_z L))
    (hp : ∀ (nn l : Int32) (b7 b8 b9 b10 : Nat → Int32) (c1 c2 c3 : Nat → Int32), c1 0 = 1 → c1 1 = 0 → c2 0 = ej_z r0 → c3 0 = ej_z d0 → post 0 (ej_z L, 2, nn, l, 0, c1, c2, c3, a4, a5, a6, b7, b8, b9, b10, a11)) : wpX_offer post (ej_z L, 2, nn, le, pk, a1, a2, a3, a4, a5, a6, a7, a8, a9, a10, a11) (ej_z r0) (ej_z d0) := by
  unfold wpX_offer
  dsimp only
  unfold wpX_probe
  dsimp only
  refine ej_wiW _ _ (fun _ => ?_) (fun z => absurd hw z)
  refine br_f (by decide) ?_
  refine Exists.intro 1 (br_f (by decide) (And.intro ej_i0 (br_t u0 (br_t (by decide) ?_))))
  refine ej_apN (nn := nn) u0 u1 ?_
  refine ej_ask0 r0 d0 rfl rfl (by omega) (by omega) (fun b c hb hc => ?_)
  refine ej_fe1 rfl hL B0 D0 hb hc h4 q (fun b' c' => br_f (by decide) ?_)
  refine br_f (by decide) (And.intro ej_i0 (nm_e (And.intro ej_i0 (nm_e (And.intro ej_i0 (nm_e ?_))))))
  exact hp _ _ _ _ _ _ _ _ _ (pk_us (k := 0)) (ej_un (k := 0) (by decide) u1) (ej_us (k := 0) (ej_byte (by omega))) (ej_us (k := 0) (ej_byte (by omega)))
theorem ej_of1 {post : Int32 → St2 → Prop} (hL : 1 ≤ L ∧ L ≤ 6) (u0 : a1 0 = 1) (u1 : a1 1 = 0) (h4 : ∀ j, j < 4 → a4 j = 0) (B0 : 0 ≤ r0 ∧ r0 ≤ 40) (D0 : 0 ≤ d0 ∧ d0 ≤ 40) (h20 : a2 0 = ej_z r0) (h30 : a3 0 = ej_z d0) (B1 : 0 ≤ r1 ∧ r1 ≤ 40) (D1 : 0 ≤ d1 ∧ d1 ≤ 40) (hw : ej_wok (ej_z r1) (ej_z d1) (ej_z L))
    (hF : ¬ ej_can L r0 d0 r1 d1 → ∀ (nn l : Int32) (b7 b8 b9 b10 : Nat → Int32), post (-3) (ej_z L, 2, nn, l, pk, a1, a2, a3, a4, a5, a6, b7, b8, b9, b10, a11))
    (hT : ej_can L r0 d0 r1 d1 → ∀ (nn l : Int32) (b7 b8 b9 b10 : Nat → Int32) (c1 c2 c3 : Nat → Int32), c1 0 = 1 → c1 1 = 1 → c2 0 = ej_z r0 → c3 0 = ej_z d0 → c2 1 = ej_z r1 → c3 1 = ej_z d1 → post 1 (ej_z L, 2, nn, l, 0, c1, c2, c3, a4, a5, a6, b7, b8, b9, b10, a11)) : wpX_offer post (ej_z L, 2, nn, le, pk, a1, a2, a3, a4, a5, a6, a7, a8, a9, a10, a11) (ej_z r1) (ej_z d1) := by
  unfold wpX_offer
  dsimp only
  unfold wpX_probe
  dsimp only
  refine ej_wiW _ _ (fun _ => ?_) (fun z => absurd hw z)
  refine br_f (by decide) ?_
  refine Exists.intro 2 (br_f (by decide) (And.intro ej_i0 (br_f (fun z => absurd (u0.symm.trans z) (by decide)) (nm_r ej_01 ?_))))
  refine br_f (by decide) (And.intro ej_i1 (br_t u1 (br_t (by decide) ?_)))
  refine ej_ap0 (nn := nn) u0 u1 B0 D0 h20 h30 (fun b c hb hc => ?_)
  refine ej_ask1 r1 d1 rfl rfl (by omega) (by omega) (fun b c e1 e2 e3 e4 => ?_)
  refine ej_fe2 (ra := r0) (da := d0) (rb := r1) (db := d1) rfl hL B0 B1 D0 D1 (e1.trans hb) (fun _ => e2) (e3.trans hc) (fun _ => e4) h4 (fun g b c => br_t rfl ?_) (fun E g _ b c => br_f (by decide) ?_)
  · exact br_t (by decide) (hF g _ _ _ _ _ _)
  · refine br_f (by decide) (And.intro ej_i1 (nm_e (And.intro ej_i1 (nm_e (And.intro ej_i1 (nm_e ?_))))))
    exact hT g _ _ _ _ _ _ _ _ _ (ej_un (k := 1) (by decide) u0) (pk_us (k := 1)) (ej_un (k := 1) (by decide) h20) (ej_un (k := 1) (by decide) h30) (ej_us (k := 1) (ej_byte (by omega))) (ej_us (k := 1) (ej_byte (by omega)))
theorem ej_jo1 {post : Int32 → Prop} (u0 : a1 0 = 1) (u1 : a1 1 = 0) (hp : post 1) : wpX_jobs post (ej_z L, 2, nn, le, pk, a1, a2, a3, a4, a5, a6, a7, a8, a9, a10, a11) :=
  Exists.intro 3 (br_f (by decide) ⟨ej_i0, br_f (fun z => absurd (u0.symm.trans z) (by decide)) (nm_r (e' := (1 : Int32)) (by decide) (nm_r ej_01 (br_f (by decide) ⟨ej_i1, br_t u1 (nm_r ej_11 (br_t (by decide) hp))⟩)))⟩)
theorem ej_jo3 {post : Int32 → Prop} (u0 : a1 0 = 1) (u1 : a1 1 = 1) (hp : post 3) : wpX_jobs post (ej_z L, 2, nn, le, pk, a1, a2, a3, a4, a5, a6, a7, a8, a9, a10, a11) :=
  Exists.intro 3 (br_f (by decide) ⟨ej_i0, br_f (fun z => absurd (u0.symm.trans z) (by decide)) (nm_r (e' := (1 : Int32)) (by decide) (nm_r ej_01 (br_f (by decide) ⟨ej_i1, br_f (fun z => absurd (u1.symm.trans z) (by decide)) (nm_r (e' := (3 : Int32)) (by decide) (nm_r ej_11 (br_t (by decide) hp)))⟩)))⟩)
theorem ej_maW {post : Int32 → Prop} {x y : Int32} (a b c : Int) (hx : x = ej_z a) (hy : y = ej_z b) (ha : -1000 ≤ a ∧ a ≤ 1000) (hb : -1000 ≤ b ∧ b ≤ 1000) (e : max a b = c) (hp : post (ej_z c)) : wpL_max post () x y := by
  subst hx hy
  exact ej_le a b (fun z => by rw [show b = c by omega]; exact hp) (fun z => by rw [show a = c by omega]; exact hp)
theorem ej_miW {post : Int32 → Prop} {x y : Int32} (a b c : Int) (hx : x = ej_z a) (hy : y = ej_z b) (ha : -1000 ≤ a ∧ a ≤ 1000) (hb : -1000 ≤ b ∧ b ≤ 1000) (e : min a b = c) (hp : post (ej_z c)) : wpL_min post () x y := by
  subst hx hy
  exact ej_le b a (fun z => by rw [show b = c by omega]; exact hp) (fun z => by rw [show a = c by omega]; exact hp)
end
end
section
section
variable {L r0 d0 r1 d1 e01 e10 b01 b10 c01 c10 es ls s E bg : Int}
theorem ej_v1 (hL : 1 ≤ L ∧ L ≤ 6) (B0 : 0 ≤ r0 ∧ r0 ≤ 40) (D0 : 0 ≤ d0 ∧ d0 ≤ 40) (B1 : 0 ≤ r1 ∧ r1 ≤ 40) (D1 : 0 ≤ d1 ∧ d1 ≤ 40) (q0 : r0 + L ≤ d0) (q1 : r1 + L ≤ d1) (f1 : e01 = max r1 (r0 + L) + L) (f2 : e10 = max r0 (r1 + L) + L) (f3 : b01 = min d0 (d1 - L) - L) (f4 : b10 = min d1 (d0 - L) - L) (g : (c01 = 1 ∧ c10 = 1 ∧ e01 ≤ d1 ∧ e10 ≤ d0) ∨ (c01 = 1 ∧ c10 = 0 ∧ e01 ≤ d1 ∧ d0 < e10) ∨ (c01 = 0 ∧ c10 = 1 ∧ d1 < e01 ∧ e10 ≤ d0)) (h : (c01 = 1 ∧ es = r0) ∨ (c01 = 0 ∧ es = e10 - L)) : (r0 ≤ es ∧ es + L ≤ d0) ∧ ∀ m, r0 ≤ m → m + L ≤ d0 → (ej_can L r1 d1 r0 (m + L) ↔ es ≤ m) := by
  unfold ej_can
  rcases g with g | g | g
  · refine ⟨by omega, fun m h1 h2 => ⟨fun z => by omega, fun z => by omega⟩⟩
  · refine ⟨by omega, fun m h1 h2 => ⟨fun z => by omega, fun z => by omega⟩⟩
  · refine ⟨by omega, fun m h1 h2 => ⟨fun z => by omega, fun z => by omega⟩⟩
theorem ej_v2 (hL : 1 ≤ L ∧ L ≤ 6) (B0 : 0 ≤ r0 ∧ r0 ≤ 40) (D0 : 0 ≤ d0 ∧ d0 ≤ 40) (B1 : 0 ≤ r1 ∧ r1 ≤ 40) (D1 : 0 ≤ d1 ∧ d1 ≤ 40) (q0 : r0 + L ≤ d0) (q1 : r1 + L ≤ d1) (f1 : e01 = max r1 (r0 + L) + L) (f2 : e10 = max r0 (r1 + L) + L) (f3 : b01 = min d0 (d1 - L) - L) (f4 : b10 = min d1 (d0 - L) - L) (g : (c01 = 1 ∧ c10 = 1 ∧ e01 ≤ d1 ∧ e10 ≤ d0) ∨ (c01 = 1 ∧ c10 = 0 ∧ e01 ≤ d1 ∧ d0 < e10) ∨ (c01 = 0 ∧ c10 = 1 ∧ d1 < e01 ∧ e10 ≤ d0)) (h : (c10 = 1 ∧ ls = d0 - L) ∨ (c10 = 0 ∧ ls = b01)) : (r0 ≤ ls ∧ ls + L ≤ d0) ∧ ∀ m, r0 ≤ m → m + L ≤ d0 → (ej_can L r1 d1 m d0 ↔ m ≤ ls) := by
  unfold ej_can
  rcases g with g | g | g
  · refine ⟨by omega, fun m h1 h2 => ⟨fun z => by omega, fun z => by omega⟩⟩
  · refine ⟨by omega, fun m h1 h2 => ⟨fun z => by omega, fun z => by omega⟩⟩
  · refine ⟨by omega, fun m h1 h2 => ⟨fun z => by omega, fun z => by omega⟩⟩
theorem ej_v3 (hL : 1 ≤ L ∧ L ≤ 6) (B0 : 0 ≤ r0 ∧ r0 ≤ 40) (D0 : 0 ≤ d0 ∧ d0 ≤ 40) (B1 : 0 ≤ r1 ∧ r1 ≤ 40) (D1 : 0 ≤ d1 ∧ d1 ≤ 40) (q0 : r0 + L ≤ d0) (q1 : r1 + L ≤ d1) (f1 : e01 = max r1 (r0 + L) + L) (f2 : e10 = max r0 (r1 + L) + L) (f3 : b01 = min d0 (d1 - L) - L) (f4 : b10 = min d1 (d0 - L) - L) (g : (c01 = 1 ∧ c10 = 1 ∧ e01 ≤ d1 ∧ e10 ≤ d0) ∨ (c01 = 1 ∧ c10 = 0 ∧ e01 ≤ d1 ∧ d0 < e10) ∨ (c01 = 0 ∧ c10 = 1 ∧ d1 < e01 ∧ e10 ≤ d0)) (h : (c01 = 1 ∧ es = r0) ∨ (c01 = 0 ∧ es = e10 - L)) (hs : (es < r1 + L ∧ s = max r1 (es + L)) ∨ (r1 + L ≤ es ∧ s = r1)) : (r1 ≤ s ∧ s + L ≤ d1) ∧ ∀ m, r1 ≤ m → m + L ≤ d1 → (ej_can L es (es + L) r1 (m + L) ↔ s ≤ m) := by
  unfold ej_can
  rcases g with g | g | g
  · refine ⟨by omega, fun m h1 h2 => ⟨fun z => by omega, fun z => by omega⟩⟩
  · refine ⟨by omega, fun m h1 h2 => ⟨fun z => by omega, fun z => by omega⟩⟩
  · refine ⟨by omega, fun m h1 h2 => ⟨fun z => by omega, fun z => by omega⟩⟩
theorem ej_v4 (hL : 1 ≤ L ∧ L ≤ 6) (B0 : 0 ≤ r0 ∧ r0 ≤ 40) (D0 : 0 ≤ d0 ∧ d0 ≤ 40) (B1 : 0 ≤ r1 ∧ r1 ≤ 40) (D1 : 0 ≤ d1 ∧ d1 ≤ 40) (q0 : r0 + L ≤ d0) (q1 : r1 + L ≤ d1) (f1 : e01 = max r1 (r0 + L) + L) (f2 : e10 = max r0 (r1 + L) + L) (f3 : b01 = min d0 (d1 - L) - L) (f4 : b10 = min d1 (d0 - L) - L) (g : (c01 = 1 ∧ c10 = 1 ∧ e01 ≤ d1 ∧ e10 ≤ d0) ∨ (c01 = 1 ∧ c10 = 0 ∧ e01 ≤ d1 ∧ d0 < e10) ∨ (c01 = 0 ∧ c10 = 1 ∧ d1 < e01 ∧ e10 ≤ d0)) (h : (c01 = 1 ∧ c10 = 1 ∧ bg = max b01 b10) ∨ (c01 = 1 ∧ c10 = 0 ∧ bg = b01) ∨ (c01 = 0 ∧ c10 = 1 ∧ bg = b10)) : (0 ≤ bg ∧ bg ≤ 40) ∧ ∀ m, 0 ≤ m → m ≤ 40 → (ej_can L (max r0 m) d0 (max r1 m) d1 ↔ m ≤ bg) := by
  unfold ej_can
  rcases g with g | g | g
  · have hb : bg = max b01 b10 := by omega
    clear h
    refine ⟨by omega, fun m h1 h2 => ?_⟩
    have m0 : max r0 m = r0 ∨ max r0 m = m := by omega
    have m1 : max r1 m = r1 ∨ max r1 m = m := by omega
    have n0 : r0 ≤ max r0 m ∧ m ≤ max r0 m := by omega
    have n1 : r1 ≤ max r1 m ∧ m ≤ max r1 m := by omega
    generalize max r0 m = x at m0 n0
    generalize max r1 m = y at m1 n1
    exact ⟨fun z => by omega, fun z => by omega⟩
  · have hb : bg = b01 := by omega
    clear h
    refine ⟨by omega, fun m h1 h2 => ⟨fun z => by omega, fun z => by omega⟩⟩
  · have hb : bg = b10 := by omega
    clear h
    refine ⟨by omega, fun m h1 h2 => ⟨fun z => by omega, fun z => by omega⟩⟩
theorem ej_v5 (hL : 1 ≤ L ∧ L ≤ 6) (B0 : 0 ≤ r0 ∧ r0 ≤ 40) (D0 : 0 ≤ d0 ∧ d0 ≤ 40) (B1 : 0 ≤ r1 ∧ r1 ≤ 40) (D1 : 0 ≤ d1 ∧ d1 ≤ 40) (q0 : r0 + L ≤ d0) (q1 : r1 + L ≤ d1) (f1 : e01 = max r1 (r0 + L) + L) (f2 : e10 = max r0 (r1 + L) + L) (f3 : b01 = min d0 (d1 - L) - L) (f4 : b10 = min d1 (d0 - L) - L) (g : (c01 = 1 ∧ c10 = 1 ∧ e01 ≤ d1 ∧ e10 ≤ d0) ∨ (c01 = 1 ∧ c10 = 0 ∧ e01 ≤ d1 ∧ d0 < e10) ∨ (c01 = 0 ∧ c10 = 1 ∧ d1 < e01 ∧ e10 ≤ d0)) (h : ej_end L r0 d0 r1 d1 E) : (c01 = 1 ∧ c10 = 1 ∧ E = min e01 e10) ∨ (c01 = 1 ∧ c10 = 0 ∧ E = e01) ∨ (c01 = 0 ∧ c10 = 1 ∧ E = e10) := by
  unfold ej_end at h
  rcases g with g | g | g
  · exact Or.inl (by omega)
  · exact Or.inr (Or.inl (by omega))
  · exact Or.inr (Or.inr (by omega))
/-- the last comparisons of the law -/
theorem ej_300 {post : Int32 → St0 → Prop} {mc ms kc ks : Nat} (hL : 1 ≤ L ∧ L ≤ 6) (B0 : 0 ≤ r0 ∧ r0 ≤ 40) (D0 : 0 ≤ d0 ∧ d0 ≤ 40) (B1 : 0 ≤ r1 ∧ r1 ≤ 40) (D1 : 0 ≤ d1 ∧ d1 ≤ 40) (q0 : r0 + L ≤ d0) (q1 : r1 + L ≤ d1) (f1 : e01 = max r1 (r0 + L) + L) (f2 : e10 = max r0 (r1 + L) + L) (f3 : b01 = min d0 (d1 - L) - L) (f4 : b10 = min d1 (d0 - L) - L) (Bs : 0 ≤ es ∧ es ≤ 40) (hls : (c10 = 1 ∧ ls = d0 - L) ∨ (c10 = 0 ∧ ls = b01)) (hs : (es < r1 + L ∧ s = max r1 (es + L)) ∨ (r1 + L ≤ es ∧ s = r1))
    (hE : (c01 = 1 ∧ c10 = 1 ∧ E = min e01 e10) ∨ (c01 = 1 ∧ c10 = 0 ∧ E = e01) ∨ (c01 = 0 ∧ c10 = 1 ∧ E = e10)) (hB : (c01 = 1 ∧ c10 = 1 ∧ bg = max b01 b10) ∨ (c01 = 1 ∧ c10 = 0 ∧ bg = b01) ∨ (c01 = 0 ∧ c10 = 1 ∧ bg = b10)) (hp : post 1 ()) :
    wL_lawOf_300 post mc ms (ej_z d0) (ej_z r1) (ej_z L) 0 1 (ej_z e01) (ej_z e10) (ej_z b01) (ej_z b10) (ej_z c01) (ej_z c10) 3 (ej_z es) (ej_z ls) (ej_z es) (ej_z s) (ej_z E) (ej_z bg) (ej_z es) kc ks := by
  have k408 : wL_lawOf_408 post mc ms 0 1 3 (ej_z es) (ej_z ls) (ej_z es) (ej_z s) (ej_z E) (ej_z bg) (ej_z es) (ej_z ls) (ej_z s) (ej_z E) (ej_z bg) kc ks :=
    br_t rfl (br_t rfl (br_t rfl (br_t rfl (br_t rfl (br_t rfl (br_t rfl (br_t rfl (br_t rfl hp))))))))
  have k374 : wL_lawOf_374 post mc ms 0 1 (ej_z b01) (ej_z b10) (ej_z c01) (ej_z c10) 3 (ej_z es) (ej_z ls) (ej_z es) (ej_z s) (ej_z E) (ej_z bg) (ej_z es) (ej_z ls) (ej_z s) (ej_z E) kc ks := by
    rcases hB with ⟨h1, h2, h3⟩ | ⟨h1, h2, h3⟩ | ⟨h1, h2, h3⟩
    · subst h1 h2
      refine br_f (by decide) (br_f (by decide) ?_)
      exact ej_maW b01 b10 bg rfl rfl (by omega) (by omega) h3.symm k408
    · subst h1 h2 h3
      exact br_f (by decide) (br_t rfl (br_f (by decide) k408))
    · subst h1 h2 h3
      exact br_t rfl (br_t rfl k408)
  have k340 : wL_lawOf_340 post mc ms 0 1 (ej_z e01) (ej_z e10) (ej_z b01) (ej_z b10) (ej_z c01) (ej_z c10) 3 (ej_z es) (ej_z ls) (ej_z es) (ej_z s) (ej_z E) (ej_z bg) (ej_z es) (ej_z ls) (ej_z s) kc ks := by
    rcases hE with ⟨h1, h2, h3⟩ | ⟨h1, h2, h3⟩ | ⟨h1, h2, h3⟩
    · subst h1 h2
      refine br_f (by decide) (br_f (by decide) ?_)
      exact ej_miW e01 e10 E rfl rfl (by omega) (by omega) h3.symm k374
    · subst h1 h2 h3
      exact br_f (by decide) (br_t rfl (br_f (by decide) k374))
    · subst h1 h2 h3
      exact br_t rfl (br_t rfl k374)
  have k316 : wL_lawOf_316 post mc ms (ej_z r1) (ej_z L) 0 1 (ej_z e01) (ej_z e10) (ej_z b01) (ej_z b10) (ej_z c01) (ej_z c10) 3 (ej_z es) (ej_z ls) (ej_z es) (ej_z s) (ej_z E) (ej_z bg) (ej_z es) (ej_z ls) kc ks := by
    refine ej_lt es (r1 + L) (fun g => ?_) (fun g => ?_) rfl (ej_add r1 L)
    · exact ej_maW r1 (es + L) s rfl (ej_add es L) (by omega) (by omega) (by omega) k340
    · have e : s = r1 := by omega
      rw [e] at k340 ⊢
      exact k340
  rcases hls with ⟨h1, h2⟩ | ⟨h1, h2⟩
  · refine br_f (by rw [h1]; decide) ?_
    rw [ej_sub, ← h2]
    exact k316
  · refine br_t (by rw [h1]; rfl) ?_
    rw [h2] at k316 ⊢
    exact k316
end
end
section
section
variable {L r0 d0 r1 d1 : Int} {cp le pk nn : Int32} {a1 a2 a3 a4 a5 a6 a7 a8 a9 a10 a11 : Nat → Int32}
/-- all questions over two jobs that are there -/
theorem ej_240 {post : Int32 → St0 → Prop} {mc ms kc ks : Nat} {e01 e10 b01 b10 c01 c10 : Int} (hL : 1 ≤ L ∧ L ≤ 6) (B0 : 0 ≤ r0 ∧ r0 ≤ 40) (D0 : 0 ≤ d0 ∧ d0 ≤ 40) (B1 : 0 ≤ r1 ∧ r1 ≤ 40) (D1 : 0 ≤ d1 ∧ d1 ≤ 40) (q0 : r0 + L ≤ d0) (q1 : r1 + L ≤ d1) (f1 : e01 = max r1 (r0 + L) + L) (f2 : e10 = max r0 (r1 + L) + L) (f3 : b01 = min d0 (d1 - L) - L) (f4 : b10 = min d1 (d0 - L) - L) (g : (c01 = 1 ∧ c10 = 1 ∧ e01 ≤ d1 ∧ e10 ≤ d0) ∨ (c01 = 1 ∧ c10 = 0 ∧ e01 ≤ d1 ∧ d0 < e10) ∨ (c01 = 0 ∧ c10 = 1 ∧ d1 < e01 ∧ e10 ≤ d0)) (hc : ej_can L r0 d0 r1 d1) (u0 : a1 0 = 1) (u1 : a1 1 = 1) (h20 : a2 0 = ej_z r0) (h30 : a3 0 = ej_z d0) (h21 : a2 1 = ej_z r1) (h31 : a3 1 = ej_z d1) (h4 : ∀ j, j < 4 → a4 j = 0) (hp : post 1 ()) :
    wL_lawOf_240 post mc ms (ej_z r0) (ej_z d0) (ej_z r1) (ej_z L) 0 1 (ej_z e01) (ej_z e10) (ej_z b01) (ej_z b10) (ej_z c01) (ej_z c10) 3 kc ks (ej_z L) 2 nn le 0 a1 a2 a3 a4 a5 a6 a7 a8 a9 a10 a11 := by
  obtain ⟨es, hes⟩ : ∃ es : Int, (c01 = 1 ∧ es = r0) ∨ (c01 = 0 ∧ es = e10 - L) := by
    rcases g with g | g | g
    · exact ⟨r0, Or.inl ⟨g.1, rfl⟩⟩
    · exact ⟨r0, Or.inl ⟨g.1, rfl⟩⟩
    · exact ⟨e10 - L, Or.inr ⟨g.1, rfl⟩⟩
  obtain ⟨ls, hls⟩ : ∃ ls : Int, (c10 = 1 ∧ ls = d0 - L) ∨ (c10 = 0 ∧ ls = b01) := by
    rcases g with g | g | g
    · exact ⟨d0 - L, Or.inl ⟨g.2.1, rfl⟩⟩
    · exact ⟨b01, Or.inr ⟨g.2.1, rfl⟩⟩
    · exact ⟨d0 - L, Or.inl ⟨g.2.1, rfl⟩⟩
  obtain ⟨s, hs⟩ : ∃ s : Int, (es < r1 + L ∧ s = max r1 (es + L)) ∨ (r1 + L ≤ es ∧ s = r1) := by
    rcases Int.lt_or_le es (r1 + L) with z | z
    · exact ⟨_, Or.inl ⟨z, rfl⟩⟩
    · exact ⟨_, Or.inr ⟨z, rfl⟩⟩
  obtain ⟨bg, hbg⟩ : ∃ bg : Int, (c01 = 1 ∧ c10 = 1 ∧ bg = max b01 b10) ∨ (c01 = 1 ∧ c10 = 0 ∧ bg = b01) ∨ (c01 = 0 ∧ c10 = 1 ∧ bg = b10) := by
    rcases g with g | g | g
    · exact ⟨_, Or.inl ⟨g.1, g.2.1, rfl⟩⟩
    · exact ⟨_, Or.inr (Or.inl ⟨g.1, g.2.1, rfl⟩)⟩
    · exact ⟨_, Or.inr (Or.inr ⟨g.1, g.2.1, rfl⟩)⟩
  have v1 := ej_v1 hL B0 D0 B1 D1 q0 q1 f1 f2 f3 f4 g hes
  have v2 := ej_v2 hL B0 D0 B1 D1 q0 q1 f1 f2 f3 f4 g hls
  have v3 := ej_v3 hL B0 D0 B1 D1 q0 q1 f1 f2 f3 f4 g hes hs
  have v4 := ej_v4 hL B0 D0 B1 D1 q0 q1 f1 f2 f3 f4 g hbg
  have Bs : 0 ≤ es ∧ es ≤ 40 := ⟨Int.le_trans B0.1 v1.1.1, by have := v1.1.2; omega⟩
  refine ej_esW (nn := nn) es hL u0 u1 B0 D0 h20 h30 B1 D1 h21 h31 h4 q0 v1.1 v1.2 (fun nn l b7 b8 b9 b10 => ?_)
  refine ej_lsW (nn := nn) ls hL u0 u1 B0 D0 h20 h30 B1 D1 h21 h31 h4 q0 v2.1 v2.2 (fun nn l b7 b8 b9 b10 => ?_)
  refine ej_ps0 (nn := nn) es s hL u0 u1 B0 D0 h20 h30 B1 D1 h21 h31 h4 q0 q1 v1.1 v3.1 v1.2 v3.2 (fun nn l b7 b8 b9 b10 b11 p0 p1 => ?_)
  refine ej_ps1 (nn := nn) u1 p1 ?_
  refine ej_eeW (nn := nn) hL u0 u1 B0 D0 h20 h30 B1 D1 h21 h31 h4 hc (fun E nn b7 b8 b9 b10 hE => ?_)
  refine ej_lbW (nn := nn) bg hL u0 u1 B0 D0 h20 h30 B1 D1 h21 h31 h4 v4.1 v4.2 (fun nn l b7 b8 b9 b10 => ?_)
  have v5 := ej_v5 hL B0 D0 B1 D1 q0 q1 f1 f2 f3 f4 g hE
  have fin := ej_300 (mc := mc) (ms := ms) (kc := kc) (ks := ks) hL B0 D0 B1 D1 q0 q1 f1 f2 f3 f4 Bs hls hs v5 hbg hp
  rcases hes with ⟨h1, h2⟩ | ⟨h1, h2⟩
  · refine br_f (by rw [h1]; decide) ?_
    rw [h2] at fin ⊢
    exact fin
  · refine br_t (by rw [h1]; rfl) ?_
    rw [ej_sub, ← h2]
    exact fin
/-- the law over one object -/
theorem ej_32 {post : Int32 → St0 → Prop} {mc ms kc ks : Nat} {x1 x2 x3 x4 : Int32} (hL : 1 ≤ L ∧ L ≤ 6) (u0 : a1 0 = 0) (u1 : a1 1 = 0) (h4 : ∀ j, j < 4 → a4 j = 0) (hp : post 1 ()) :
    wL_lawOf_32 post mc ms x1 x2 x3 x4 (ej_z L) kc ks (ej_z L) 2 nn le pk a1 a2 a3 a4 a5 a6 a7 a8 a9 a10 a11 := by
  unfold wL_lawOf_32
  by_cases w0 : ej_wok x1 x2 (ej_z L)
  · obtain ⟨r0, d0, B0, D0, q0, rfl, rfl⟩ := ej_wokE hL w0
    refine ej_of0 hL u0 u1 h4 B0 D0 q0 w0 (fun nn l b7 b8 b9 b10 c1 c2 c3 v0 v1 h20 h30 => ?_)
    by_cases w1 : ej_wok x3 x4 (ej_z L)
    · obtain ⟨r1, d1, B1, D1, q1, rfl, rfl⟩ := ej_wokE hL w1
      have hw0 := w0
      have hw1 := w1
      refine ej_of1 hL v0 v1 h4 B0 D0 h20 h30 B1 D1 w1 (fun hc nn l b7 b8 b9 b10 => ?_) (fun hc nn l b7 b8 b9 b10 c1 c2 c3 v0 v1 h20 h30 h21 h31 => ?_)
      · unfold ej_can at hc
        refine ej_wiL _ _ _ (fun _ => ?_) (fun z => absurd hw0 z); refine ej_wiL _ _ _ (fun _ => ?_) (fun z => absurd hw1 z); refine br_f (by decide) (br_f (by decide) ?_); refine ej_maW r1 (r0 + L) _ rfl (ej_add r0 L) (by omega) (by omega) rfl (nm_r (ej_add _ L) ?_); refine ej_maW r0 (r1 + L) _ rfl (ej_add r1 L) (by omega) (by omega) rfl (nm_r (ej_add _ L) ?_); refine ej_miW d0 (d1 - L) _ rfl (ej_sub d1 L) (by omega) (by omega) rfl (nm_r (ej_sub _ L) ?_); refine ej_miW d1 (d0 - L) _ rfl (ej_sub d0 L) (by omega) (by omega) rfl (nm_r (ej_sub _ L) ?_)
        refine ej_lt d1 (max r1 (r0 + L) + L) (fun g01 => ?_) (fun g01 => absurd g01 (by omega))
        refine ej_lt d0 (max r0 (r1 + L) + L) (fun g10 => ?_) (fun g10 => absurd g10 (by omega))
        refine ej_jo1 (nn := nn) v0 v1 ?_
        exact br_t rfl (br_t rfl (br_t rfl (br_t rfl (br_t rfl hp))))
      · have hc' := hc
        unfold ej_can at hc'
        refine ej_wiL _ _ _ (fun _ => ?_) (fun z => absurd hw0 z); refine ej_wiL _ _ _ (fun _ => ?_) (fun z => absurd hw1 z); refine br_f (by decide) (br_f (by decide) ?_); refine ej_maW r1 (r0 + L) _ rfl (ej_add r0 L) (by omega) (by omega) rfl (nm_r (ej_add _ L) ?_); refine ej_maW r0 (r1 + L) _ rfl (ej_add r1 L) (by omega) (by omega) rfl (nm_r (ej_add _ L) ?_); refine ej_miW d0 (d1 - L) _ rfl (ej_sub d1 L) (by omega) (by omega) rfl (nm_r (ej_sub _ L) ?_); refine ej_miW d1 (d0 - L) _ rfl (ej_sub d0 L) (by omega) (by omega) rfl (nm_r (ej_sub _ L) ?_)
        have go : ∀ c01 c10 : Int, ((c01 = 1 ∧ c10 = 1 ∧ max r1 (r0 + L) + L ≤ d1 ∧ max r0 (r1 + L) + L ≤ d0) ∨ (c01 = 1 ∧ c10 = 0 ∧ max r1 (r0 + L) + L ≤ d1 ∧ d0 < max r0 (r1 + L) + L) ∨ (c01 = 0 ∧ c10 = 1 ∧ d1 < max r1 (r0 + L) + L ∧ max r0 (r1 + L) + L ≤ d0)) →
            wL_lawOf_240 post mc ms (ej_z r0) (ej_z d0) (ej_z r1) (ej_z L) 0 1 (ej_z (max r1 (r0 + L) + L)) (ej_z (max r0 (r1 + L) + L)) (ej_z (min d0 (d1 - L) - L)) (ej_z (min d1 (d0 - L) - L)) (ej_z c01) (ej_z c10) 3 kc ks (ej_z L) 2 nn l 0 c1 c2 c3 a4 a5 a6 b7 b8 b9 b10 a11 :=
          fun c01 c10 g => ej_240 hL B0 D0 B1 D1 q0 q1 rfl rfl rfl rfl g hc v0 v1 h20 h30 h21 h31 h4 hp
        refine ej_lt d1 (max r1 (r0 + L) + L) (fun g01 => ?_) (fun g01 => ?_)
        · refine ej_lt d0 (max r0 (r1 + L) + L) (fun g10 => absurd g10 (by omega)) (fun g10 => ?_)
          refine ej_jo3 (nn := nn) v0 v1 ?_
          exact br_t rfl (br_f (by decide) (go 0 1 (by omega)))
        · refine ej_lt d0 (max r0 (r1 + L) + L) (fun g10 => ?_) (fun g10 => ?_)
          · refine ej_jo3 (nn := nn) v0 v1 ?_
            exact br_f (by decide) (go 1 0 (by omega))
          · refine ej_jo3 (nn := nn) v0 v1 ?_
            exact br_f (by decide) (go 1 1 (by omega))
    · refine ej_ofN w1 ?_
      refine ej_wiL _ _ _ (fun _ => ?_) (fun z => absurd w0 z)
      refine ej_wiL _ _ _ (fun z => absurd z w1) (fun _ => ?_)
      exact br_f (by decide) (br_t rfl (br_f (by decide) (br_t rfl (br_t rfl (br_t rfl hp)))))
  · refine ej_ofN w0 ?_
    by_cases w1 : ej_wok x3 x4 (ej_z L)
    · obtain ⟨r1, d1, B1, D1, q1, rfl, rfl⟩ := ej_wokE hL w1
      refine ej_of0 hL u0 u1 h4 B1 D1 q1 w1 (fun nn l b7 b8 b9 b10 c1 c2 c3 v0 v1 h20 h30 => ?_)
      refine ej_wiL _ _ _ (fun z => absurd z w0) (fun _ => ?_)
      refine ej_wiL _ _ _ (fun _ => ?_) (fun z => absurd w1 z)
      exact br_t rfl (br_t rfl (br_t rfl (br_f (by decide) (br_t rfl hp))))
    · refine ej_ofN w1 ?_
      refine ej_wiL _ _ _ (fun z => absurd z w0) (fun _ => ?_)
      refine ej_wiL _ _ _ (fun z => absurd z w1) (fun _ => ?_)
      exact br_t rfl (br_t rfl (br_t rfl (br_t rfl (br_t rfl hp))))
end
/-- the law over any five ints -/
theorem ej_lawOf {post : Int32 → St0 → Prop} (p0 p1 p2 p3 p4 : Int32) (hp : post 1 ()) : wpL_lawOf post 12 132 () p0 p1 p2 p3 p4 := by
  have go : ∀ (x : Int32) (L : Int), 1 ≤ L ∧ L ≤ 6 → x = ej_z L → wL_lawOf_32 post 12 132 p1 p2 p3 p4 x (1 + 11) (16 + 116) x 2 0 0 0 (fun _ => 0) (fun _ => 0) (fun _ => 0) (fun _ => 0) (fun _ => 0) (fun _ => 0) (fun _ => 0) (fun _ => 0) (fun _ => 0) (fun _ => 0) (fun _ => 0) := by
    intro x L hL e
    subst e
    exact ej_32 hL rfl rfl (fun _ _ => rfl) hp
  refine ⟨by omega, by omega, 11, 116, by omega, by omega, ?_⟩
  refine ⟨by omega, by omega, by omega, by omega, by omega, by omega, by omega, by omega, by omega, by omega, by omega, by omega, by omega, by omega, by omega, by omega, by omega, by omega, by omega, by omega, by omega, by omega, ?_⟩
  have i111 : ∀ (post : St2 → Prop) (z0 : Int32), post (z0, 2, 0, 0, 0, (fun _ => 0), (fun _ => 0), (fun _ => 0), (fun _ => 0), (fun _ => 0), (fun _ => 0), (fun _ => 0), (fun _ => 0), (fun _ => 0), (fun _ => 0), (fun _ => 0)) → wX_init_111 post 11 116 2 z0 11 116 0 0 0 0 0 (fun _ => 0) (fun _ => 0) (fun _ => 0) (fun _ => 0) (fun _ => 0) (fun _ => 0) (fun _ => 0) (fun _ => 0) (fun _ => 0) (fun _ => 0) (fun _ => 0) :=
    fun post z0 h => br_t (by decide) (br_t (by decide) h)
  have e1 : (1 : Int32).toInt = 1 := by decide
  have e6 : (6 : Int32).toInt = 6 := by decide
  refine br_c (fun g1 => br_c (fun g6 => i111 _ _ ?_) (fun g6 => i111 _ _ ?_)) (fun g1 => i111 _ _ ?_)
  · have g1' := g1
    have g6' := g6
    rw [Int32.le_iff_toInt_le, e1] at g1'
    rw [Int32.le_iff_toInt_le, e6] at g6'
    obtain ⟨L, l1, l6, eL⟩ := ej_of g1' g6'
    exact br_t g1 (br_t g6 (go p0 L ⟨l1, l6⟩ eL))
  · exact br_t g1 (br_f g6 (go 6 6 (by omega) rfl))
  · exact br_f g1 (go 1 1 (by omega) rfl)
theorem ej_cell {post : Int32 → Prop} {L : Nat} {xs : Nat → Int32} (hL : L ≤ 5) (k : Nat) (hk : k < 5) (h : ∀ x, post x) : wpL_cellAt post L xs () (nI k) :=
  pk_le L k (fun _ => h 0) (fun z => ⟨vp_in_nI z (by omega), h _⟩)
theorem i_vc (xs : Nat → Int32) (L : Nat) (hL : L ≤ 5) : wpL_law (fun r => r = 1) L xs := by
  refine ej_cell hL 0 (by omega) (fun x0 => ?_)
  refine ej_cell hL 1 (by omega) (fun x1 => ?_)
  refine ej_cell hL 2 (by omega) (fun x2 => ?_)
  refine ej_cell hL 3 (by omega) (fun x3 => ?_)
  refine ej_cell hL 4 (by omega) (fun x4 => ?_)
  exact ⟨12, 132, by omega, by omega, ej_lawOf x0 x1 x2 x3 x4 rfl⟩
end
