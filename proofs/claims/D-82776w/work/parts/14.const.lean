/-! constants and kinds for the rows -/
set_option maxRecDepth 100000
theorem k_bipush_m10 : (Int8.ofInt (-10)).toInt32 = (-10 : Int32) := by decide +kernel
theorem k_bipush_m2 : (Int8.ofInt (-2)).toInt32 = (-2 : Int32) := by decide +kernel
theorem k_bipush_6 : (Int8.ofInt (6)).toInt32 = (6 : Int32) := by decide +kernel
theorem k_bipush_7 : (Int8.ofInt (7)).toInt32 = (7 : Int32) := by decide +kernel
theorem k_bipush_8 : (Int8.ofInt (8)).toInt32 = (8 : Int32) := by decide +kernel
theorem k_bipush_9 : (Int8.ofInt (9)).toInt32 = (9 : Int32) := by decide +kernel
theorem k_bipush_10 : (Int8.ofInt (10)).toInt32 = (10 : Int32) := by decide +kernel
theorem k_bipush_11 : (Int8.ofInt (11)).toInt32 = (11 : Int32) := by decide +kernel
theorem k_bipush_12 : (Int8.ofInt (12)).toInt32 = (12 : Int32) := by decide +kernel
theorem k_bipush_13 : (Int8.ofInt (13)).toInt32 = (13 : Int32) := by decide +kernel
theorem k_bipush_14 : (Int8.ofInt (14)).toInt32 = (14 : Int32) := by decide +kernel
theorem k_bipush_15 : (Int8.ofInt (15)).toInt32 = (15 : Int32) := by decide +kernel
theorem k_bipush_16 : (Int8.ofInt (16)).toInt32 = (16 : Int32) := by decide +kernel
theorem k_bipush_17 : (Int8.ofInt (17)).toInt32 = (17 : Int32) := by decide +kernel
theorem k_bipush_18 : (Int8.ofInt (18)).toInt32 = (18 : Int32) := by decide +kernel
theorem k_bipush_19 : (Int8.ofInt (19)).toInt32 = (19 : Int32) := by decide +kernel
theorem k_bipush_20 : (Int8.ofInt (20)).toInt32 = (20 : Int32) := by decide +kernel
theorem k_bipush_21 : (Int8.ofInt (21)).toInt32 = (21 : Int32) := by decide +kernel
theorem k_bipush_24 : (Int8.ofInt (24)).toInt32 = (24 : Int32) := by decide +kernel
theorem k_bipush_25 : (Int8.ofInt (25)).toInt32 = (25 : Int32) := by decide +kernel
theorem k_bipush_30 : (Int8.ofInt (30)).toInt32 = (30 : Int32) := by decide +kernel
theorem k_bipush_31 : (Int8.ofInt (31)).toInt32 = (31 : Int32) := by decide +kernel
theorem k_bipush_32 : (Int8.ofInt (32)).toInt32 = (32 : Int32) := by decide +kernel
theorem k_bipush_38 : (Int8.ofInt (38)).toInt32 = (38 : Int32) := by decide +kernel
theorem k_bipush_39 : (Int8.ofInt (39)).toInt32 = (39 : Int32) := by decide +kernel
theorem k_bipush_40 : (Int8.ofInt (40)).toInt32 = (40 : Int32) := by decide +kernel
theorem k_bipush_41 : (Int8.ofInt (41)).toInt32 = (41 : Int32) := by decide +kernel
theorem k_bipush_42 : (Int8.ofInt (42)).toInt32 = (42 : Int32) := by decide +kernel
theorem k_bipush_43 : (Int8.ofInt (43)).toInt32 = (43 : Int32) := by decide +kernel
theorem k_bipush_45 : (Int8.ofInt (45)).toInt32 = (45 : Int32) := by decide +kernel
theorem k_bipush_47 : (Int8.ofInt (47)).toInt32 = (47 : Int32) := by decide +kernel
theorem k_bipush_48 : (Int8.ofInt (48)).toInt32 = (48 : Int32) := by decide +kernel
theorem k_bipush_49 : (Int8.ofInt (49)).toInt32 = (49 : Int32) := by decide +kernel
theorem k_bipush_50 : (Int8.ofInt (50)).toInt32 = (50 : Int32) := by decide +kernel
theorem k_bipush_57 : (Int8.ofInt (57)).toInt32 = (57 : Int32) := by decide +kernel
theorem k_bipush_59 : (Int8.ofInt (59)).toInt32 = (59 : Int32) := by decide +kernel
theorem k_bipush_60 : (Int8.ofInt (60)).toInt32 = (60 : Int32) := by decide +kernel
theorem k_bipush_61 : (Int8.ofInt (61)).toInt32 = (61 : Int32) := by decide +kernel
theorem k_bipush_62 : (Int8.ofInt (62)).toInt32 = (62 : Int32) := by decide +kernel
theorem k_bipush_63 : (Int8.ofInt (63)).toInt32 = (63 : Int32) := by decide +kernel
theorem k_bipush_65 : (Int8.ofInt (65)).toInt32 = (65 : Int32) := by decide +kernel
theorem k_bipush_90 : (Int8.ofInt (90)).toInt32 = (90 : Int32) := by decide +kernel
theorem k_bipush_96 : (Int8.ofInt (96)).toInt32 = (96 : Int32) := by decide +kernel
theorem k_bipush_97 : (Int8.ofInt (97)).toInt32 = (97 : Int32) := by decide +kernel
theorem k_bipush_98 : (Int8.ofInt (98)).toInt32 = (98 : Int32) := by decide +kernel
theorem k_bipush_99 : (Int8.ofInt (99)).toInt32 = (99 : Int32) := by decide +kernel
theorem k_bipush_100 : (Int8.ofInt (100)).toInt32 = (100 : Int32) := by decide +kernel
theorem k_bipush_120 : (Int8.ofInt (120)).toInt32 = (120 : Int32) := by decide +kernel
theorem k_bipush_122 : (Int8.ofInt (122)).toInt32 = (122 : Int32) := by decide +kernel
theorem k_bipush_124 : (Int8.ofInt (124)).toInt32 = (124 : Int32) := by decide +kernel
theorem k_iconst_m8 : Int32.ofInt (-8) = (-8 : Int32) := by decide +kernel
theorem k_iconst_m1 : Int32.ofInt (-1) = (-1 : Int32) := by decide +kernel
theorem k_iconst_0 : Int32.ofInt (0) = (0 : Int32) := by decide +kernel
theorem k_iconst_1 : Int32.ofInt (1) = (1 : Int32) := by decide +kernel
theorem k_iconst_2 : Int32.ofInt (2) = (2 : Int32) := by decide +kernel
theorem k_iconst_3 : Int32.ofInt (3) = (3 : Int32) := by decide +kernel
theorem k_iconst_4 : Int32.ofInt (4) = (4 : Int32) := by decide +kernel
theorem k_iconst_5 : Int32.ofInt (5) = (5 : Int32) := by decide +kernel
theorem k_iconst_6 : Int32.ofInt (6) = (6 : Int32) := by decide +kernel
theorem k_lconst_0 : Int64.ofNat ((0 : Fin 2) : Nat) = (0 : Int64) := by decide +kernel
theorem k_lconst_1 : Int64.ofNat ((1 : Fin 2) : Nat) = (1 : Int64) := by decide +kernel
theorem k_sipush_150 : (Int16.ofInt (150)).toInt32 = (150 : Int32) := by decide +kernel
theorem k_sipush_151 : (Int16.ofInt (151)).toInt32 = (151 : Int32) := by decide +kernel
theorem k_sipush_152 : (Int16.ofInt (152)).toInt32 = (152 : Int32) := by decide +kernel
theorem k_sipush_153 : (Int16.ofInt (153)).toInt32 = (153 : Int32) := by decide +kernel
theorem k_sipush_201 : (Int16.ofInt (201)).toInt32 = (201 : Int32) := by decide +kernel
theorem k_sipush_202 : (Int16.ofInt (202)).toInt32 = (202 : Int32) := by decide +kernel
theorem k_sipush_203 : (Int16.ofInt (203)).toInt32 = (203 : Int32) := by decide +kernel
theorem k_sipush_204 : (Int16.ofInt (204)).toInt32 = (204 : Int32) := by decide +kernel
theorem k_sipush_205 : (Int16.ofInt (205)).toInt32 = (205 : Int32) := by decide +kernel
theorem k_sipush_206 : (Int16.ofInt (206)).toInt32 = (206 : Int32) := by decide +kernel
theorem k_sipush_207 : (Int16.ofInt (207)).toInt32 = (207 : Int32) := by decide +kernel
theorem k_sipush_208 : (Int16.ofInt (208)).toInt32 = (208 : Int32) := by decide +kernel
theorem k_sipush_255 : (Int16.ofInt (255)).toInt32 = (255 : Int32) := by decide +kernel
theorem k_sipush_300 : (Int16.ofInt (300)).toInt32 = (300 : Int32) := by decide +kernel
theorem k_sipush_400 : (Int16.ofInt (400)).toInt32 = (400 : Int32) := by decide +kernel
theorem k_sipush_480 : (Int16.ofInt (480)).toInt32 = (480 : Int32) := by decide +kernel
theorem k_sipush_600 : (Int16.ofInt (600)).toInt32 = (600 : Int32) := by decide +kernel
theorem k_sipush_620 : (Int16.ofInt (620)).toInt32 = (620 : Int32) := by decide +kernel
theorem k_sipush_1023 : (Int16.ofInt (1023)).toInt32 = (1023 : Int32) := by decide +kernel
theorem k_sipush_1220 : (Int16.ofInt (1220)).toInt32 = (1220 : Int32) := by decide +kernel
theorem k_sipush_2399 : (Int16.ofInt (2399)).toInt32 = (2399 : Int32) := by decide +kernel
theorem k_sipush_2400 : (Int16.ofInt (2400)).toInt32 = (2400 : Int32) := by decide +kernel
theorem k_sipush_2440 : (Int16.ofInt (2440)).toInt32 = (2440 : Int32) := by decide +kernel
theorem k_sipush_9999 : (Int16.ofInt (9999)).toInt32 = (9999 : Int32) := by decide +kernel
theorem is_k0 {n : Nat} (h : n = 1) : xm_is 0 n = true := by subst h; rfl
theorem is_k1 {n : Nat} (h : n = 2) : xm_is 1 n = true := by subst h; rfl
theorem is_k2 {n : Nat} (h : n = 3) : xm_is 2 n = true := by subst h; rfl
theorem is_k3 {n : Nat} (h : n = 4) : xm_is 3 n = true := by subst h; rfl
theorem is_k4 {n : Nat} (h : n = 5) : xm_is 4 n = true := by subst h; rfl
theorem is_k5 {n : Nat} (h : n = 6) : xm_is 5 n = true := by subst h; rfl
-- 6: many kinds
theorem is_k7 {n : Nat} (h : n = 8) : xm_is 7 n = true := by subst h; rfl
theorem is_k8 {n : Nat} (h : n = 9) : xm_is 8 n = true := by subst h; rfl
theorem is_k9 {n : Nat} (h : n = 10) : xm_is 9 n = true := by subst h; rfl
-- 10: many kinds
theorem is_k11 {n : Nat} (h : n = 12) : xm_is 11 n = true := by subst h; rfl
theorem is_k12 {n : Nat} (h : n = 13) : xm_is 12 n = true := by subst h; rfl
theorem is_k13 {n : Nat} (h : n = 14) : xm_is 13 n = true := by subst h; rfl
-- 14: many kinds
theorem is_k15 {n : Nat} (h : n = 16) : xm_is 15 n = true := by subst h; rfl
theorem is_k16 {n : Nat} (h : n = 17) : xm_is 16 n = true := by subst h; rfl
theorem is_k17 {n : Nat} (h : n = 18) : xm_is 17 n = true := by subst h; rfl
-- 18: many kinds
theorem is_k19 {n : Nat} (h : n = 20) : xm_is 19 n = true := by subst h; rfl
theorem is_k20 {n : Nat} (h : n = 21) : xm_is 20 n = true := by subst h; rfl
theorem is_k21 {n : Nat} (h : n = 22) : xm_is 21 n = true := by subst h; rfl
-- 22: many kinds
-- 23: many kinds
theorem is_k24 {n : Nat} (h : n = 25) : xm_is 24 n = true := by subst h; rfl
-- 25: many kinds
theorem is_k26 {n : Nat} (h : n = 27) : xm_is 26 n = true := by subst h; rfl
theorem is_k27 {n : Nat} (h : n = 28) : xm_is 27 n = true := by subst h; rfl
theorem is_k28 {n : Nat} (h : n = 29) : xm_is 28 n = true := by subst h; rfl
theorem is_k29 {n : Nat} (h : n = 30) : xm_is 29 n = true := by subst h; rfl
theorem is_k30 {n : Nat} (h : n = 31) : xm_is 30 n = true := by subst h; rfl
theorem is_k31 {n : Nat} (h : n = 32) : xm_is 31 n = true := by subst h; rfl
theorem is_k32 {n : Nat} (h : n = 33) : xm_is 32 n = true := by subst h; rfl
theorem is_k33 {n : Nat} (h : n = 34) : xm_is 33 n = true := by subst h; rfl
theorem is_k34 {n : Nat} (h : n = 35) : xm_is 34 n = true := by subst h; rfl
